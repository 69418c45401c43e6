/-! the JDK: a TreeMap after an insertion -/
set_option maxRecDepth 100000
theorem tm_set_c {σ τ : kx_H} {c m a : Nat} {t : tt_T} {K V : Nat → Nat} {D : Nat → Int32} {vals : Option Nat} {sz : Nat} {md z : Int32} {l r p : Option Nat} (h : tm_H σ c m t K V D vals sz md) (hf : tm_M σ c K V D a l r p)
    (e : τ = kx_up σ (c, 100 + a) (a, .inr (19, [.ref (K a), .ref (V a), va_rf l, va_rf r, va_rf p, .int z]))) (hz : z = nI 0 ∨ z = nI 1) : tm_H τ c m t K V (tm_c D a z) vals sz md := by
  refine ⟨kx_ro e h.1 (kx_ne2 (by omega)), tt_H_m (fun x hx l' r' p' hM => ?_) h.2.1, h.2.2.1, tm_c_01 h.2.2.2 hz⟩
  by_cases q : x = a
  · subst q
    obtain ⟨h1, h2, h3⟩ := tm_inj hM hf
    subst h1; subst h2; subst h3
    show τ (c, 100 + x) = some (x, .inr (19, [.ref (K x), .ref (V x), va_rf l', va_rf r', va_rf p', .int (tm_c D x z x)]))
    rw [show tm_c D x z x = z from if_pos rfl]
    exact kx_rs e
  · show τ (c, 100 + x) = some (x, .inr (19, [.ref (K x), .ref (V x), va_rf l', va_rf r', va_rf p', .int (tm_c D a z x)]))
    rw [show tm_c D a z x = D x from if_neg q]
    exact kx_ro e hM (tm_x q)
theorem tm_at {σ : kx_H} {c m x : Nat} {t : tt_T} {K V : Nat → Nat} {D : Nat → Int32} {vals : Option Nat} {sz : Nat} {md : Int32} (h : tm_H σ c m t K V D vals sz md) (hx : x ∈ tt_i t) : ∃ l r p, tm_M σ c K V D x l r p := by
  obtain ⟨B, l, r, e⟩ := tt_at hx
  have g := h.2.1
  rw [e] at g
  exact ⟨_, _, _, ((tt_H_p B _).mp g).1.1⟩
theorem tt_rt : ∀ (B : tt_C) {x : Nat} {l r : tt_T}, ∃ rn rl rr, tt_p B (.branch x l r) = .branch rn rl rr
  | [], x, l, r => ⟨x, l, r, rfl⟩
  | (true, q, s) :: B, x, l, r => tt_rt B
  | (false, q, s) :: B, x, l, r => tt_rt B
theorem tt_len : ∀ {B : tt_C}, B.length ≤ (tt_lc B ++ tt_rc B).length
  | [] => Nat.le_refl _
  | (true, q, s) :: B => by
    have := tt_len (B := B)
    simp only [tt_lc, tt_rc, List.length_append, List.length_cons] at this ⊢
    omega
  | (false, q, s) :: B => by
    have := tt_len (B := B)
    simp only [tt_lc, tt_rc, List.length_append, List.length_cons, List.length_nil] at this ⊢
    omega
theorem tt_len2 {B : tt_C} {t : tt_T} : B.length ≤ (tt_i (tt_p B t)).length := by
  have := tt_len (B := B)
  rw [tt_i_p]
  simp only [List.length_append] at this ⊢
  omega
theorem mt_J19_setColorT {l : Launch} {G : kx_G} (htr : l.stackTraces = false) {σ : kx_H} {ct mp : Nat} {K V : Nat → Nat} {D : Nat → Int32} {vals : Option Nat} {sz : Nat} {md : Int32} {t : tt_T} {an : Nat} {z : Int32} (h : tm_H σ ct mp t K V D vals sz md) (ha : an ∈ tt_i t) (hz : z = nI 0 ∨ z = nI 1) : kx_SP l G yJ19_setColor (ws_ yJ19_setColor cJ19_setColor 2 none) 1 0 0 [.ref an, .int z] σ (fun v τ => v = none ∧ tm_H τ ct mp t K V (tm_c D an z) vals sz md ∧ kx_Fr (tm_T ct (tt_i t)) σ τ) kx_nx := by
  obtain ⟨l1, r1, p1, hf⟩ := tm_at h ha
  refine (mt_J19_setColorR htr hf hz).mono (fun v τ hq => ?_) (fun _ _ _ q => q)
  obtain ⟨rfl, e⟩ := hq
  exact ⟨rfl, tm_set_c h hf e hz, kx_Fr.up2 kx_Fr.rf e (tm_T_e ha)⟩
set_option maxHeartbeats 1000000 in
theorem mt_J19_rotateLeftN {l : Launch} {G : kx_G} (htr : l.stackTraces = false) {σ : kx_H} {a : Nat} : kx_SP l G yJ19_rotateLeft (ws_ yJ19_rotateLeft cJ19_rotateLeft 3 none) 1 0 0 [.ref a, .null] σ (fun v τ => v = none ∧ τ = σ) kx_nx := by
  refine kx_body htr (by decide +kernel) (own := "java/util/TreeMap") (nm := "rotateLeft") rfl rfl (Nat.le_of_ble_eq_true rfl) ?_
  intro p e s m args below meth c Q C hQ
  first | refine ri_aload_n C dJ19_rotateLeft_0 rfl ?_ | refine ri_aload_nQ C dJ19_rotateLeft_0 rfl ?_ | refine ri_aload_nN C dJ19_rotateLeft_0 rfl ?_
  refine ri_ifnullN C 95 dJ19_rotateLeft_1 rfl ?_
  exact ri_vret C hQ dJ19_rotateLeft_95 (Nat.le_of_ble_eq_true rfl) (Nat.le_of_ble_eq_true rfl) ⟨rfl, rfl⟩
set_option maxHeartbeats 1000000 in
theorem mt_J19_rotateRightN {l : Launch} {G : kx_G} (htr : l.stackTraces = false) {σ : kx_H} {a : Nat} : kx_SP l G yJ19_rotateRight (ws_ yJ19_rotateRight cJ19_rotateRight 3 none) 1 0 0 [.ref a, .null] σ (fun v τ => v = none ∧ τ = σ) kx_nx := by
  refine kx_body htr (by decide +kernel) (own := "java/util/TreeMap") (nm := "rotateRight") rfl rfl (Nat.le_of_ble_eq_true rfl) ?_
  intro p e s m args below meth c Q C hQ
  first | refine ri_aload_n C dJ19_rotateRight_0 rfl ?_ | refine ri_aload_nQ C dJ19_rotateRight_0 rfl ?_ | refine ri_aload_nN C dJ19_rotateRight_0 rfl ?_
  refine ri_ifnullN C 95 dJ19_rotateRight_1 rfl ?_
  exact ri_vret C hQ dJ19_rotateRight_95 (Nat.le_of_ble_eq_true rfl) (Nat.le_of_ble_eq_true rfl) ⟨rfl, rfl⟩
set_option maxHeartbeats 4000000 in
theorem mt_J19_fixAfterInsertion {l : Launch} {G : kx_G} (htr : l.stackTraces = false) {σ : kx_H} {ct mp : Nat} {K V : Nat → Nat} {D : Nat → Int32} {vals : Option Nat} {sz : Nat} {md : Int32} {Bx : tt_C} {xa : Nat} {xl xr : tt_T} (h : tm_H σ ct mp (tt_p Bx (.branch xa xl xr)) K V D vals sz md) : kx_SP l G yJ19_fixAfterInsertion (ws_ yJ19_fixAfterInsertion cJ19_fixAfterInsertion 3 none) 2 0 0 [.ref mp, .ref xa] σ (fun v τ => v = none ∧ ∃ t' D', tm_H τ ct mp t' K V D' vals sz md ∧ tt_i t' = tt_i (tt_p Bx (.branch xa xl xr)) ∧ kx_Fr (tm_T ct (tt_i (tt_p Bx (.branch xa xl xr)))) σ τ) kx_nx := by
  refine kx_body htr (by decide +kernel) (own := "java/util/TreeMap") (nm := "fixAfterInsertion") rfl rfl (Nat.le_of_ble_eq_true rfl) ?_
  intro p e s m args below meth c Q C hQ
  obtain ⟨L0, hL0⟩ : ∃ L0, L0 = tt_i (tt_p Bx (.branch xa xl xr)) := ⟨_, rfl⟩
  rw [← hL0] at hQ
  have hlen : Bx.length ≤ L0.length := by rw [hL0]; exact tt_len2
  have LP : ∀ (wk i : Nat) (Bx : tt_C) (xa : Nat) (xl xr : tt_T) (D1 : Nat → Int32) (τ : kx_H), i ≤ L0.length + 5 → L0.length + 5 < i + wk → (tm_H τ ct mp (tt_p Bx (.branch xa xl xr)) K V D1 vals sz md ∧ tt_i (tt_p Bx (.branch xa xl xr)) = L0 ∧ kx_Fr (tm_T ct L0) σ τ ∧ (Bx.length + i + 2 ≤ L0.length + 5 ∨ (i + 1 ≤ L0.length + 5 ∧ ∀ q, tt_u Bx = some q → D1 q = nI 1))) → kx_V G l p e (kx_rm 2 0 0) s m args below meth c 3 Q 5 [(0, .ref mp), (1, .ref xa)] [] τ 0 0 := by
    intro wk
    induction wk with
    | zero => intro i Bx xa xl xr D1 τ h1 h2; exact absurd h2 (by omega)
    | succ wk ih =>
      intro i Bx xa xl xr D1 τ hi hwk hJ
      obtain ⟨hh1, hh2, hh3, hms⟩ := hJ
      rcases Bx with _ | ⟨⟨_ | _, pn, ts⟩, Bx⟩
      · have h0 : tm_H τ ct mp (tt_p [] (.branch xa xl xr)) K V D1 vals sz md := hh1
        have i0 : tt_i (tt_p [] (.branch xa xl xr)) = L0 := hh2
        have F0 := hh3
        obtain ⟨⟨f0_xa, f0_xl, f0_xr⟩, fK0⟩ := (tt_H_p [] (.branch xa xl xr)).mp h0.2.1
        refine ri_aload_n C dJ19_fixAfterInsertion_5 rfl ?_
        refine ri_ifnull C dJ19_fixAfterInsertion_6 ?_
        refine ri_aload_n C dJ19_fixAfterInsertion_9 rfl ?_
        refine ri_aload_n C dJ19_fixAfterInsertion_10 rfl ?_
        refine ri_getf C dJ19_fixAfterInsertion_11 fr_q577_18 h0.1 (by rfl) ?_
        refine ri_acmp_eqQ (rx := (some xa)) (ry := (some xa)) C 258 dJ19_fixAfterInsertion_14 rfl (fun h14 => ?_) (fun h14 => ?_)
        · obtain ⟨rn9, rl9, rr9, hr9⟩ : ∃ rn rl rr, (tt_p [] (.branch xa xl xr)) = .branch rn rl rr := tt_rt []
          have hc9 : tm_M τ ct K V D1 rn9 (tt_r rl9) (tt_r rr9) none := (by have g9 := h0.2.1; rw [hr9] at g9; exact g9.1)
          refine ri_aload_n C dJ19_fixAfterInsertion_258 rfl ?_
          refine ri_getf C dJ19_fixAfterInsertion_259 fr_q577_18 h0.1 (by rfl) ?_
          rw [hr9]
          refine ri_iconst C dJ19_fixAfterInsertion_262 kc_i1 ?_
          refine ri_putf C dJ19_fixAfterInsertion_263 fd_q1091_19 (fun h => nomatch h) hc9 (Nat.le_of_ble_eq_true rfl) (by rfl) (by rfl) (by dsimp only [List.set] <;> rfl) (fun s263 e263 => ?_)
          exact ri_vret C hQ dJ19_fixAfterInsertion_266 (Nat.le_of_ble_eq_true rfl) (Nat.le_of_ble_eq_true rfl) ⟨rfl, _, _, tm_set_c h0 hc9 e263 (Or.inr rfl), i0, kx_Fr.up2 F0 e263 (tm_T_e (by rw [← i0, hr9]; simp [tt_i]))⟩
        · exact absurd rfl h14
      · rcases Bx with _ | ⟨⟨_ | _, gn, us⟩, Bx⟩
        · have h0 : tm_H τ ct mp (tt_p [] (.branch pn ts (.branch xa xl xr))) K V D1 vals sz md := hh1
          have i0 : tt_i (tt_p [] (.branch pn ts (.branch xa xl xr))) = L0 := hh2
          have F0 := hh3
          obtain ⟨⟨f0_pn, f0_ts, ⟨f0_xa, f0_xl, f0_xr⟩⟩, fK0⟩ := (tt_H_p [] (.branch pn ts (.branch xa xl xr))).mp h0.2.1
          refine ri_aload_n C dJ19_fixAfterInsertion_5 rfl ?_
          refine ri_ifnull C dJ19_fixAfterInsertion_6 ?_
          refine ri_aload_n C dJ19_fixAfterInsertion_9 rfl ?_
          refine ri_aload_n C dJ19_fixAfterInsertion_10 rfl ?_
          refine ri_getf C dJ19_fixAfterInsertion_11 fr_q577_18 h0.1 (by rfl) ?_
          refine ri_acmp_eqQ (rx := (some xa)) (ry := (some pn)) C 258 dJ19_fixAfterInsertion_14 rfl (fun h14 => ?_) (fun h14 => ?_)
          · exfalso; injection h14 with q9; subst q9; have nd9 := h0.2.2.1; simp [tt_i_p, tt_p, tt_i, List.nodup_append] at nd9
          · refine ri_aload_n C dJ19_fixAfterInsertion_17 rfl ?_
            refine ri_getf C dJ19_fixAfterInsertion_18 fr_q1089_19 f0_xa (by rfl) ?_
            refine ri_getf C dJ19_fixAfterInsertion_21 fr_q1091_19 f0_pn (by rfl) ?_
            refine ri_if_ne C 258 dJ19_fixAfterInsertion_24 rfl (fun h24 => ?_) (fun h24 => ?_)
            · obtain ⟨rn9, rl9, rr9, hr9⟩ : ∃ rn rl rr, (tt_p [] (.branch pn ts (.branch xa xl xr))) = .branch rn rl rr := tt_rt []
              have hc9 : tm_M τ ct K V D1 rn9 (tt_r rl9) (tt_r rr9) none := (by have g9 := h0.2.1; rw [hr9] at g9; exact g9.1)
              refine ri_aload_n C dJ19_fixAfterInsertion_258 rfl ?_
              refine ri_getf C dJ19_fixAfterInsertion_259 fr_q577_18 h0.1 (by rfl) ?_
              rw [hr9]
              refine ri_iconst C dJ19_fixAfterInsertion_262 kc_i1 ?_
              refine ri_putf C dJ19_fixAfterInsertion_263 fd_q1091_19 (fun h => nomatch h) hc9 (Nat.le_of_ble_eq_true rfl) (by rfl) (by rfl) (by dsimp only [List.set] <;> rfl) (fun s263 e263 => ?_)
              exact ri_vret C hQ dJ19_fixAfterInsertion_266 (Nat.le_of_ble_eq_true rfl) (Nat.le_of_ble_eq_true rfl) ⟨rfl, _, _, tm_set_c h0 hc9 e263 (Or.inr rfl), i0, kx_Fr.up2 F0 e263 (tm_T_e (by rw [← i0, hr9]; simp [tt_i]))⟩
            · have hln := hms.resolve_right (fun q => absurd ((q.2 pn rfl).symm.trans h24) (by decide))
              refine ri_aload_n C dJ19_fixAfterInsertion_27 rfl ?_
              refine ri_callS C km_J19_parentOf q1116 dJ19_fixAfterInsertion_28 (mt_J19_parentOfR htr (y := (some pn)) f0_xa) rfl rfl ⟨⟨(Nat.le_of_ble_eq_true rfl), (Nat.le_of_ble_eq_true rfl)⟩, (Nat.le_of_ble_eq_true rfl), (Nat.le_of_ble_eq_true rfl), (Nat.le_of_ble_eq_true rfl)⟩ (fun v28 z28 q28 => ?_) (fun _ _ _ h => h.elim)
              obtain ⟨rfl, rfl⟩ := q28
              refine ri_aload_n C dJ19_fixAfterInsertion_31 rfl ?_
              refine ri_callS C km_J19_parentOf q1116 dJ19_fixAfterInsertion_32 (mt_J19_parentOfR htr (y := (some pn)) f0_xa) rfl rfl ⟨⟨(Nat.le_of_ble_eq_true rfl), (Nat.le_of_ble_eq_true rfl)⟩, (Nat.le_of_ble_eq_true rfl), (Nat.le_of_ble_eq_true rfl), (Nat.le_of_ble_eq_true rfl)⟩ (fun v32 z32 q32 => ?_) (fun _ _ _ h => h.elim)
              obtain ⟨rfl, rfl⟩ := q32
              refine ri_callS C km_J19_parentOf q1116 dJ19_fixAfterInsertion_35 (mt_J19_parentOfR htr (y := none) f0_pn) rfl rfl ⟨⟨(Nat.le_of_ble_eq_true rfl), (Nat.le_of_ble_eq_true rfl)⟩, (Nat.le_of_ble_eq_true rfl), (Nat.le_of_ble_eq_true rfl), (Nat.le_of_ble_eq_true rfl)⟩ (fun v35 z35 q35 => ?_) (fun _ _ _ h => h.elim)
              obtain ⟨rfl, rfl⟩ := q35
              refine ri_callS C km_J19_leftOf q1119 dJ19_fixAfterInsertion_38 (mt_J19_leftOfN htr) rfl rfl ⟨⟨(Nat.le_of_ble_eq_true rfl), (Nat.le_of_ble_eq_true rfl)⟩, (Nat.le_of_ble_eq_true rfl), (Nat.le_of_ble_eq_true rfl), (Nat.le_of_ble_eq_true rfl)⟩ (fun v38 z38 q38 => ?_) (fun _ _ _ h => h.elim)
              obtain ⟨rfl, rfl⟩ := q38
              refine ri_acmp_neQ (rx := (some pn)) (ry := none) C 151 dJ19_fixAfterInsertion_41 rfl (fun h41 => ?_) (fun h41 => ?_)
              · refine ri_aload_n C dJ19_fixAfterInsertion_151 rfl ?_
                refine ri_callS C km_J19_parentOf q1116 dJ19_fixAfterInsertion_152 (mt_J19_parentOfR htr (y := (some pn)) f0_xa) rfl rfl ⟨⟨(Nat.le_of_ble_eq_true rfl), (Nat.le_of_ble_eq_true rfl)⟩, (Nat.le_of_ble_eq_true rfl), (Nat.le_of_ble_eq_true rfl), (Nat.le_of_ble_eq_true rfl)⟩ (fun v152 z152 q152 => ?_) (fun _ _ _ h => h.elim)
                obtain ⟨rfl, rfl⟩ := q152
                refine ri_callS C km_J19_parentOf q1116 dJ19_fixAfterInsertion_155 (mt_J19_parentOfR htr (y := none) f0_pn) rfl rfl ⟨⟨(Nat.le_of_ble_eq_true rfl), (Nat.le_of_ble_eq_true rfl)⟩, (Nat.le_of_ble_eq_true rfl), (Nat.le_of_ble_eq_true rfl), (Nat.le_of_ble_eq_true rfl)⟩ (fun v155 z155 q155 => ?_) (fun _ _ _ h => h.elim)
                obtain ⟨rfl, rfl⟩ := q155
                refine ri_callS C km_J19_leftOf q1119 dJ19_fixAfterInsertion_158 (mt_J19_leftOfN htr) rfl rfl ⟨⟨(Nat.le_of_ble_eq_true rfl), (Nat.le_of_ble_eq_true rfl)⟩, (Nat.le_of_ble_eq_true rfl), (Nat.le_of_ble_eq_true rfl), (Nat.le_of_ble_eq_true rfl)⟩ (fun v158 z158 q158 => ?_) (fun _ _ _ h => h.elim)
                obtain ⟨rfl, rfl⟩ := q158
                refine ri_astore_nN C dJ19_fixAfterInsertion_161 rfl (by decide) ?_
                refine ri_aload_nN C dJ19_fixAfterInsertion_162 rfl ?_
                refine ri_callS C km_J19_colorOf q1125 dJ19_fixAfterInsertion_163 (mt_J19_colorOfN htr) rfl rfl ⟨⟨(Nat.le_of_ble_eq_true rfl), (Nat.le_of_ble_eq_true rfl)⟩, (Nat.le_of_ble_eq_true rfl), (Nat.le_of_ble_eq_true rfl), (Nat.le_of_ble_eq_true rfl)⟩ (fun v163 z163 q163 => ?_) (fun _ _ _ h => h.elim)
                obtain ⟨rfl, rfl⟩ := q163
                refine ri_if_ne C 204 dJ19_fixAfterInsertion_166 rfl (fun h166 => ?_) (fun h166 => ?_)
                · refine ri_aload_n C dJ19_fixAfterInsertion_204 rfl ?_
                  refine ri_aload_n C dJ19_fixAfterInsertion_205 rfl ?_
                  refine ri_callS C km_J19_parentOf q1116 dJ19_fixAfterInsertion_206 (mt_J19_parentOfR htr (y := (some pn)) f0_xa) rfl rfl ⟨⟨(Nat.le_of_ble_eq_true rfl), (Nat.le_of_ble_eq_true rfl)⟩, (Nat.le_of_ble_eq_true rfl), (Nat.le_of_ble_eq_true rfl), (Nat.le_of_ble_eq_true rfl)⟩ (fun v206 z206 q206 => ?_) (fun _ _ _ h => h.elim)
                  obtain ⟨rfl, rfl⟩ := q206
                  refine ri_callS C km_J19_leftOf q1119 dJ19_fixAfterInsertion_209 (mt_J19_leftOfR htr (y := (tt_r ts)) f0_pn) rfl rfl ⟨⟨(Nat.le_of_ble_eq_true rfl), (Nat.le_of_ble_eq_true rfl)⟩, (Nat.le_of_ble_eq_true rfl), (Nat.le_of_ble_eq_true rfl), (Nat.le_of_ble_eq_true rfl)⟩ (fun v209 z209 q209 => ?_) (fun _ _ _ h => h.elim)
                  obtain ⟨rfl, rfl⟩ := q209
                  refine ri_acmp_neQ (rx := (some xa)) (ry := (tt_r ts)) C 225 dJ19_fixAfterInsertion_212 rfl (fun h212 => ?_) (fun h212 => ?_)
                  · refine ri_aload_n C dJ19_fixAfterInsertion_225 rfl ?_
                    refine ri_callS C km_J19_parentOf q1116 dJ19_fixAfterInsertion_226 (mt_J19_parentOfR htr (y := (some pn)) f0_xa) rfl rfl ⟨⟨(Nat.le_of_ble_eq_true rfl), (Nat.le_of_ble_eq_true rfl)⟩, (Nat.le_of_ble_eq_true rfl), (Nat.le_of_ble_eq_true rfl), (Nat.le_of_ble_eq_true rfl)⟩ (fun v226 z226 q226 => ?_) (fun _ _ _ h => h.elim)
                    obtain ⟨rfl, rfl⟩ := q226
                    refine ri_iconst C dJ19_fixAfterInsertion_229 kc_i1 ?_
                    refine ri_callS C km_J19_setColor q1128 dJ19_fixAfterInsertion_230 (mt_J19_setColorT htr h0 (an := pn) (by simp [tt_i_p, tt_p, tt_i]) (Or.inr rfl)) rfl rfl ⟨⟨(Nat.le_of_ble_eq_true rfl), (Nat.le_of_ble_eq_true rfl)⟩, (Nat.le_of_ble_eq_true rfl), (Nat.le_of_ble_eq_true rfl), (Nat.le_of_ble_eq_true rfl)⟩ (fun v230 z230 q230 => ?_) (fun _ _ _ h => h.elim)
                    obtain ⟨rfl, h1001, e1001⟩ := q230
                    rw [i0] at e1001
                    have i1001 := i0
                    have F1001 := kx_Fr.tr F0 e1001
                    obtain ⟨⟨f1001_pn, f1001_ts, ⟨f1001_xa, f1001_xl, f1001_xr⟩⟩, fK1001⟩ := (tt_H_p [] (.branch pn ts (.branch xa xl xr))).mp h1001.2.1
                    refine ri_aload_n C dJ19_fixAfterInsertion_233 rfl ?_
                    refine ri_callS C km_J19_parentOf q1116 dJ19_fixAfterInsertion_234 (mt_J19_parentOfR htr (y := (some pn)) f1001_xa) rfl rfl ⟨⟨(Nat.le_of_ble_eq_true rfl), (Nat.le_of_ble_eq_true rfl)⟩, (Nat.le_of_ble_eq_true rfl), (Nat.le_of_ble_eq_true rfl), (Nat.le_of_ble_eq_true rfl)⟩ (fun v234 z234 q234 => ?_) (fun _ _ _ h => h.elim)
                    obtain ⟨rfl, rfl⟩ := q234
                    refine ri_callS C km_J19_parentOf q1116 dJ19_fixAfterInsertion_237 (mt_J19_parentOfR htr (y := none) f1001_pn) rfl rfl ⟨⟨(Nat.le_of_ble_eq_true rfl), (Nat.le_of_ble_eq_true rfl)⟩, (Nat.le_of_ble_eq_true rfl), (Nat.le_of_ble_eq_true rfl), (Nat.le_of_ble_eq_true rfl)⟩ (fun v237 z237 q237 => ?_) (fun _ _ _ h => h.elim)
                    obtain ⟨rfl, rfl⟩ := q237
                    refine ri_iconst C dJ19_fixAfterInsertion_240 kc_i0 ?_
                    refine ri_callS C km_J19_setColor q1128 dJ19_fixAfterInsertion_241 (mt_J19_setColorN htr) rfl rfl ⟨⟨(Nat.le_of_ble_eq_true rfl), (Nat.le_of_ble_eq_true rfl)⟩, (Nat.le_of_ble_eq_true rfl), (Nat.le_of_ble_eq_true rfl), (Nat.le_of_ble_eq_true rfl)⟩ (fun v241 z241 q241 => ?_) (fun _ _ _ h => h.elim)
                    obtain ⟨rfl, rfl⟩ := q241
                    refine ri_aload_n C dJ19_fixAfterInsertion_244 rfl ?_
                    refine ri_aload_n C dJ19_fixAfterInsertion_245 rfl ?_
                    refine ri_callS C km_J19_parentOf q1116 dJ19_fixAfterInsertion_246 (mt_J19_parentOfR htr (y := (some pn)) f1001_xa) rfl rfl ⟨⟨(Nat.le_of_ble_eq_true rfl), (Nat.le_of_ble_eq_true rfl)⟩, (Nat.le_of_ble_eq_true rfl), (Nat.le_of_ble_eq_true rfl), (Nat.le_of_ble_eq_true rfl)⟩ (fun v246 z246 q246 => ?_) (fun _ _ _ h => h.elim)
                    obtain ⟨rfl, rfl⟩ := q246
                    refine ri_callS C km_J19_parentOf q1116 dJ19_fixAfterInsertion_249 (mt_J19_parentOfR htr (y := none) f1001_pn) rfl rfl ⟨⟨(Nat.le_of_ble_eq_true rfl), (Nat.le_of_ble_eq_true rfl)⟩, (Nat.le_of_ble_eq_true rfl), (Nat.le_of_ble_eq_true rfl), (Nat.le_of_ble_eq_true rfl)⟩ (fun v249 z249 q249 => ?_) (fun _ _ _ h => h.elim)
                    obtain ⟨rfl, rfl⟩ := q249
                    refine ri_callV C km_J19_rotateLeft q1131 qs9 dJ19_fixAfterInsertion_252 (mt_J19_rotateLeftN htr) rfl rfl (kx_rcN C h1001.1 rfl) ⟨⟨(Nat.le_of_ble_eq_true rfl), (Nat.le_of_ble_eq_true rfl)⟩, (Nat.le_of_ble_eq_true rfl), (Nat.le_of_ble_eq_true rfl), (Nat.le_of_ble_eq_true rfl)⟩ (fun v252 z252 q252 => ?_) (fun _ _ _ h => h.elim)
                    obtain ⟨rfl, rfl⟩ := q252
                    refine ri_goto C 5 dJ19_fixAfterInsertion_255 rfl ?_
                    refine ri_lv2 (ih (i + 1) ((false, pn, ts) :: []) xa xl xr _ _ (by omega) (by omega) ⟨h1001, i1001, F1001, ?_⟩) ⟨rfl, rfl, trivial⟩
                    first
                      | exact Or.inl (by simp only [List.length_cons, List.length_nil] at hln ⊢; omega)
                      | exact Or.inr ⟨by simp only [List.length_cons, List.length_nil] at hln; omega, fun q hq => by cases hq; exact if_pos rfl⟩
                  · exfalso; obtain ⟨A9, C9, hA9⟩ := List.append_of_mem (tt_r_in h212.symm); have nd9 := h0.2.2.1; simp [tt_i_p, tt_p, tt_i, hA9, List.nodup_append] at nd9
                · exact absurd h166 (by decide)
              · exact absurd h41 (by intro q; cases q)
        · have h0 : tm_H τ ct mp (tt_p Bx (.branch gn us (.branch pn ts (.branch xa xl xr)))) K V D1 vals sz md := hh1
          have i0 : tt_i (tt_p Bx (.branch gn us (.branch pn ts (.branch xa xl xr)))) = L0 := hh2
          have F0 := hh3
          obtain ⟨⟨f0_gn, f0_us, ⟨f0_pn, f0_ts, ⟨f0_xa, f0_xl, f0_xr⟩⟩⟩, fK0⟩ := (tt_H_p Bx (.branch gn us (.branch pn ts (.branch xa xl xr)))).mp h0.2.1
          refine ri_aload_n C dJ19_fixAfterInsertion_5 rfl ?_
          refine ri_ifnull C dJ19_fixAfterInsertion_6 ?_
          refine ri_aload_n C dJ19_fixAfterInsertion_9 rfl ?_
          refine ri_aload_n C dJ19_fixAfterInsertion_10 rfl ?_
          refine ri_getf C dJ19_fixAfterInsertion_11 fr_q577_18 h0.1 (by rfl) ?_
          refine ri_acmp_eqQ (rx := (some xa)) (ry := (tt_r (tt_p Bx (.branch gn us (.branch pn ts (.branch xa xl xr)))))) C 258 dJ19_fixAfterInsertion_14 rfl (fun h14 => ?_) (fun h14 => ?_)
          · obtain ⟨rn9, rl9, rr9, hr9⟩ : ∃ rn rl rr, (tt_p Bx (.branch gn us (.branch pn ts (.branch xa xl xr)))) = .branch rn rl rr := tt_rt Bx
            have hc9 : tm_M τ ct K V D1 rn9 (tt_r rl9) (tt_r rr9) none := (by have g9 := h0.2.1; rw [hr9] at g9; exact g9.1)
            refine ri_aload_n C dJ19_fixAfterInsertion_258 rfl ?_
            refine ri_getf C dJ19_fixAfterInsertion_259 fr_q577_18 h0.1 (by rfl) ?_
            rw [hr9]
            refine ri_iconst C dJ19_fixAfterInsertion_262 kc_i1 ?_
            refine ri_putf C dJ19_fixAfterInsertion_263 fd_q1091_19 (fun h => nomatch h) hc9 (Nat.le_of_ble_eq_true rfl) (by rfl) (by rfl) (by dsimp only [List.set] <;> rfl) (fun s263 e263 => ?_)
            exact ri_vret C hQ dJ19_fixAfterInsertion_266 (Nat.le_of_ble_eq_true rfl) (Nat.le_of_ble_eq_true rfl) ⟨rfl, _, _, tm_set_c h0 hc9 e263 (Or.inr rfl), i0, kx_Fr.up2 F0 e263 (tm_T_e (by rw [← i0, hr9]; simp [tt_i]))⟩
          · refine ri_aload_n C dJ19_fixAfterInsertion_17 rfl ?_
            refine ri_getf C dJ19_fixAfterInsertion_18 fr_q1089_19 f0_xa (by rfl) ?_
            refine ri_getf C dJ19_fixAfterInsertion_21 fr_q1091_19 f0_pn (by rfl) ?_
            refine ri_if_ne C 258 dJ19_fixAfterInsertion_24 rfl (fun h24 => ?_) (fun h24 => ?_)
            · obtain ⟨rn9, rl9, rr9, hr9⟩ : ∃ rn rl rr, (tt_p Bx (.branch gn us (.branch pn ts (.branch xa xl xr)))) = .branch rn rl rr := tt_rt Bx
              have hc9 : tm_M τ ct K V D1 rn9 (tt_r rl9) (tt_r rr9) none := (by have g9 := h0.2.1; rw [hr9] at g9; exact g9.1)
              refine ri_aload_n C dJ19_fixAfterInsertion_258 rfl ?_
              refine ri_getf C dJ19_fixAfterInsertion_259 fr_q577_18 h0.1 (by rfl) ?_
              rw [hr9]
              refine ri_iconst C dJ19_fixAfterInsertion_262 kc_i1 ?_
              refine ri_putf C dJ19_fixAfterInsertion_263 fd_q1091_19 (fun h => nomatch h) hc9 (Nat.le_of_ble_eq_true rfl) (by rfl) (by rfl) (by dsimp only [List.set] <;> rfl) (fun s263 e263 => ?_)
              exact ri_vret C hQ dJ19_fixAfterInsertion_266 (Nat.le_of_ble_eq_true rfl) (Nat.le_of_ble_eq_true rfl) ⟨rfl, _, _, tm_set_c h0 hc9 e263 (Or.inr rfl), i0, kx_Fr.up2 F0 e263 (tm_T_e (by rw [← i0, hr9]; simp [tt_i]))⟩
            · have hln := hms.resolve_right (fun q => absurd ((q.2 pn rfl).symm.trans h24) (by decide))
              refine ri_aload_n C dJ19_fixAfterInsertion_27 rfl ?_
              refine ri_callS C km_J19_parentOf q1116 dJ19_fixAfterInsertion_28 (mt_J19_parentOfR htr (y := (some pn)) f0_xa) rfl rfl ⟨⟨(Nat.le_of_ble_eq_true rfl), (Nat.le_of_ble_eq_true rfl)⟩, (Nat.le_of_ble_eq_true rfl), (Nat.le_of_ble_eq_true rfl), (Nat.le_of_ble_eq_true rfl)⟩ (fun v28 z28 q28 => ?_) (fun _ _ _ h => h.elim)
              obtain ⟨rfl, rfl⟩ := q28
              refine ri_aload_n C dJ19_fixAfterInsertion_31 rfl ?_
              refine ri_callS C km_J19_parentOf q1116 dJ19_fixAfterInsertion_32 (mt_J19_parentOfR htr (y := (some pn)) f0_xa) rfl rfl ⟨⟨(Nat.le_of_ble_eq_true rfl), (Nat.le_of_ble_eq_true rfl)⟩, (Nat.le_of_ble_eq_true rfl), (Nat.le_of_ble_eq_true rfl), (Nat.le_of_ble_eq_true rfl)⟩ (fun v32 z32 q32 => ?_) (fun _ _ _ h => h.elim)
              obtain ⟨rfl, rfl⟩ := q32
              refine ri_callS C km_J19_parentOf q1116 dJ19_fixAfterInsertion_35 (mt_J19_parentOfR htr (y := (some gn)) f0_pn) rfl rfl ⟨⟨(Nat.le_of_ble_eq_true rfl), (Nat.le_of_ble_eq_true rfl)⟩, (Nat.le_of_ble_eq_true rfl), (Nat.le_of_ble_eq_true rfl), (Nat.le_of_ble_eq_true rfl)⟩ (fun v35 z35 q35 => ?_) (fun _ _ _ h => h.elim)
              obtain ⟨rfl, rfl⟩ := q35
              refine ri_callS C km_J19_leftOf q1119 dJ19_fixAfterInsertion_38 (mt_J19_leftOfR htr (y := (tt_r us)) f0_gn) rfl rfl ⟨⟨(Nat.le_of_ble_eq_true rfl), (Nat.le_of_ble_eq_true rfl)⟩, (Nat.le_of_ble_eq_true rfl), (Nat.le_of_ble_eq_true rfl), (Nat.le_of_ble_eq_true rfl)⟩ (fun v38 z38 q38 => ?_) (fun _ _ _ h => h.elim)
              obtain ⟨rfl, rfl⟩ := q38
              refine ri_acmp_neQ (rx := (some pn)) (ry := (tt_r us)) C 151 dJ19_fixAfterInsertion_41 rfl (fun h41 => ?_) (fun h41 => ?_)
              · refine ri_aload_n C dJ19_fixAfterInsertion_151 rfl ?_
                refine ri_callS C km_J19_parentOf q1116 dJ19_fixAfterInsertion_152 (mt_J19_parentOfR htr (y := (some pn)) f0_xa) rfl rfl ⟨⟨(Nat.le_of_ble_eq_true rfl), (Nat.le_of_ble_eq_true rfl)⟩, (Nat.le_of_ble_eq_true rfl), (Nat.le_of_ble_eq_true rfl), (Nat.le_of_ble_eq_true rfl)⟩ (fun v152 z152 q152 => ?_) (fun _ _ _ h => h.elim)
                obtain ⟨rfl, rfl⟩ := q152
                refine ri_callS C km_J19_parentOf q1116 dJ19_fixAfterInsertion_155 (mt_J19_parentOfR htr (y := (some gn)) f0_pn) rfl rfl ⟨⟨(Nat.le_of_ble_eq_true rfl), (Nat.le_of_ble_eq_true rfl)⟩, (Nat.le_of_ble_eq_true rfl), (Nat.le_of_ble_eq_true rfl), (Nat.le_of_ble_eq_true rfl)⟩ (fun v155 z155 q155 => ?_) (fun _ _ _ h => h.elim)
                obtain ⟨rfl, rfl⟩ := q155
                refine ri_callS C km_J19_leftOf q1119 dJ19_fixAfterInsertion_158 (mt_J19_leftOfR htr (y := (tt_r us)) f0_gn) rfl rfl ⟨⟨(Nat.le_of_ble_eq_true rfl), (Nat.le_of_ble_eq_true rfl)⟩, (Nat.le_of_ble_eq_true rfl), (Nat.le_of_ble_eq_true rfl), (Nat.le_of_ble_eq_true rfl)⟩ (fun v158 z158 q158 => ?_) (fun _ _ _ h => h.elim)
                obtain ⟨rfl, rfl⟩ := q158
                refine ri_astore_nQ (x := (tt_r us)) C dJ19_fixAfterInsertion_161 rfl (by decide) ?_
                refine ri_aload_nQ (x := (tt_r us)) C dJ19_fixAfterInsertion_162 rfl ?_
                rcases us with ⟨_⟩ | ⟨usn, usl, usr⟩
                · have h1002 : tm_H z158 ct mp (tt_p Bx (.branch gn tt_n (.branch pn ts (.branch xa xl xr)))) K V D1 vals sz md := h0
                  have i1002 : tt_i (tt_p Bx (.branch gn tt_n (.branch pn ts (.branch xa xl xr)))) = L0 := i0
                  have F1002 := F0
                  obtain ⟨⟨f1002_gn, -, ⟨f1002_pn, f1002_ts, ⟨f1002_xa, f1002_xl, f1002_xr⟩⟩⟩, fK1002⟩ := (tt_H_p Bx (.branch gn tt_n (.branch pn ts (.branch xa xl xr)))).mp h1002.2.1
                  refine ri_callS C km_J19_colorOf q1125 dJ19_fixAfterInsertion_163 (mt_J19_colorOfN htr) rfl rfl ⟨⟨(Nat.le_of_ble_eq_true rfl), (Nat.le_of_ble_eq_true rfl)⟩, (Nat.le_of_ble_eq_true rfl), (Nat.le_of_ble_eq_true rfl), (Nat.le_of_ble_eq_true rfl)⟩ (fun v163 z163 q163 => ?_) (fun _ _ _ h => h.elim)
                  obtain ⟨rfl, rfl⟩ := q163
                  refine ri_if_ne C 204 dJ19_fixAfterInsertion_166 rfl (fun h166 => ?_) (fun h166 => ?_)
                  · refine ri_aload_n C dJ19_fixAfterInsertion_204 rfl ?_
                    refine ri_aload_n C dJ19_fixAfterInsertion_205 rfl ?_
                    refine ri_callS C km_J19_parentOf q1116 dJ19_fixAfterInsertion_206 (mt_J19_parentOfR htr (y := (some pn)) f1002_xa) rfl rfl ⟨⟨(Nat.le_of_ble_eq_true rfl), (Nat.le_of_ble_eq_true rfl)⟩, (Nat.le_of_ble_eq_true rfl), (Nat.le_of_ble_eq_true rfl), (Nat.le_of_ble_eq_true rfl)⟩ (fun v206 z206 q206 => ?_) (fun _ _ _ h => h.elim)
                    obtain ⟨rfl, rfl⟩ := q206
                    refine ri_callS C km_J19_leftOf q1119 dJ19_fixAfterInsertion_209 (mt_J19_leftOfR htr (y := (tt_r ts)) f1002_pn) rfl rfl ⟨⟨(Nat.le_of_ble_eq_true rfl), (Nat.le_of_ble_eq_true rfl)⟩, (Nat.le_of_ble_eq_true rfl), (Nat.le_of_ble_eq_true rfl), (Nat.le_of_ble_eq_true rfl)⟩ (fun v209 z209 q209 => ?_) (fun _ _ _ h => h.elim)
                    obtain ⟨rfl, rfl⟩ := q209
                    refine ri_acmp_neQ (rx := (some xa)) (ry := (tt_r ts)) C 225 dJ19_fixAfterInsertion_212 rfl (fun h212 => ?_) (fun h212 => ?_)
                    · refine ri_aload_n C dJ19_fixAfterInsertion_225 rfl ?_
                      refine ri_callS C km_J19_parentOf q1116 dJ19_fixAfterInsertion_226 (mt_J19_parentOfR htr (y := (some pn)) f1002_xa) rfl rfl ⟨⟨(Nat.le_of_ble_eq_true rfl), (Nat.le_of_ble_eq_true rfl)⟩, (Nat.le_of_ble_eq_true rfl), (Nat.le_of_ble_eq_true rfl), (Nat.le_of_ble_eq_true rfl)⟩ (fun v226 z226 q226 => ?_) (fun _ _ _ h => h.elim)
                      obtain ⟨rfl, rfl⟩ := q226
                      refine ri_iconst C dJ19_fixAfterInsertion_229 kc_i1 ?_
                      refine ri_callS C km_J19_setColor q1128 dJ19_fixAfterInsertion_230 (mt_J19_setColorT htr h1002 (an := pn) (by simp [tt_i_p, tt_p, tt_i]) (Or.inr rfl)) rfl rfl ⟨⟨(Nat.le_of_ble_eq_true rfl), (Nat.le_of_ble_eq_true rfl)⟩, (Nat.le_of_ble_eq_true rfl), (Nat.le_of_ble_eq_true rfl), (Nat.le_of_ble_eq_true rfl)⟩ (fun v230 z230 q230 => ?_) (fun _ _ _ h => h.elim)
                      obtain ⟨rfl, h1003, e1003⟩ := q230
                      rw [i1002] at e1003
                      have i1003 := i1002
                      have F1003 := kx_Fr.tr F1002 e1003
                      obtain ⟨⟨f1003_gn, -, ⟨f1003_pn, f1003_ts, ⟨f1003_xa, f1003_xl, f1003_xr⟩⟩⟩, fK1003⟩ := (tt_H_p Bx (.branch gn tt_n (.branch pn ts (.branch xa xl xr)))).mp h1003.2.1
                      refine ri_aload_n C dJ19_fixAfterInsertion_233 rfl ?_
                      refine ri_callS C km_J19_parentOf q1116 dJ19_fixAfterInsertion_234 (mt_J19_parentOfR htr (y := (some pn)) f1003_xa) rfl rfl ⟨⟨(Nat.le_of_ble_eq_true rfl), (Nat.le_of_ble_eq_true rfl)⟩, (Nat.le_of_ble_eq_true rfl), (Nat.le_of_ble_eq_true rfl), (Nat.le_of_ble_eq_true rfl)⟩ (fun v234 z234 q234 => ?_) (fun _ _ _ h => h.elim)
                      obtain ⟨rfl, rfl⟩ := q234
                      refine ri_callS C km_J19_parentOf q1116 dJ19_fixAfterInsertion_237 (mt_J19_parentOfR htr (y := (some gn)) f1003_pn) rfl rfl ⟨⟨(Nat.le_of_ble_eq_true rfl), (Nat.le_of_ble_eq_true rfl)⟩, (Nat.le_of_ble_eq_true rfl), (Nat.le_of_ble_eq_true rfl), (Nat.le_of_ble_eq_true rfl)⟩ (fun v237 z237 q237 => ?_) (fun _ _ _ h => h.elim)
                      obtain ⟨rfl, rfl⟩ := q237
                      refine ri_iconst C dJ19_fixAfterInsertion_240 kc_i0 ?_
                      refine ri_callS C km_J19_setColor q1128 dJ19_fixAfterInsertion_241 (mt_J19_setColorT htr h1003 (an := gn) (by simp [tt_i_p, tt_p, tt_i]) (Or.inl rfl)) rfl rfl ⟨⟨(Nat.le_of_ble_eq_true rfl), (Nat.le_of_ble_eq_true rfl)⟩, (Nat.le_of_ble_eq_true rfl), (Nat.le_of_ble_eq_true rfl), (Nat.le_of_ble_eq_true rfl)⟩ (fun v241 z241 q241 => ?_) (fun _ _ _ h => h.elim)
                      obtain ⟨rfl, h1004, e1004⟩ := q241
                      rw [i1003] at e1004
                      have i1004 := i1003
                      have F1004 := kx_Fr.tr F1003 e1004
                      obtain ⟨⟨f1004_gn, -, ⟨f1004_pn, f1004_ts, ⟨f1004_xa, f1004_xl, f1004_xr⟩⟩⟩, fK1004⟩ := (tt_H_p Bx (.branch gn tt_n (.branch pn ts (.branch xa xl xr)))).mp h1004.2.1
                      refine ri_aload_n C dJ19_fixAfterInsertion_244 rfl ?_
                      refine ri_aload_n C dJ19_fixAfterInsertion_245 rfl ?_
                      refine ri_callS C km_J19_parentOf q1116 dJ19_fixAfterInsertion_246 (mt_J19_parentOfR htr (y := (some pn)) f1004_xa) rfl rfl ⟨⟨(Nat.le_of_ble_eq_true rfl), (Nat.le_of_ble_eq_true rfl)⟩, (Nat.le_of_ble_eq_true rfl), (Nat.le_of_ble_eq_true rfl), (Nat.le_of_ble_eq_true rfl)⟩ (fun v246 z246 q246 => ?_) (fun _ _ _ h => h.elim)
                      obtain ⟨rfl, rfl⟩ := q246
                      refine ri_callS C km_J19_parentOf q1116 dJ19_fixAfterInsertion_249 (mt_J19_parentOfR htr (y := (some gn)) f1004_pn) rfl rfl ⟨⟨(Nat.le_of_ble_eq_true rfl), (Nat.le_of_ble_eq_true rfl)⟩, (Nat.le_of_ble_eq_true rfl), (Nat.le_of_ble_eq_true rfl), (Nat.le_of_ble_eq_true rfl)⟩ (fun v249 z249 q249 => ?_) (fun _ _ _ h => h.elim)
                      obtain ⟨rfl, rfl⟩ := q249
                      refine ri_callV C km_J19_rotateLeft q1131 qs9 dJ19_fixAfterInsertion_252 (mt_J19_rotateLeft htr (Bx := (Bx)) (pn := gn) (rn := pn) (ta := tt_n) (tb := ts) (td := (.branch xa xl xr)) h1004) rfl rfl (kx_rcN C h1004.1 rfl) ⟨⟨(Nat.le_of_ble_eq_true rfl), (Nat.le_of_ble_eq_true rfl)⟩, (Nat.le_of_ble_eq_true rfl), (Nat.le_of_ble_eq_true rfl), (Nat.le_of_ble_eq_true rfl)⟩ (fun v252 z252 q252 => ?_) (fun _ _ _ h => h.elim)
                      obtain ⟨rfl, H1005, e1005⟩ := q252
                      have h1005 : tm_H z252 ct mp (tt_p Bx (.branch pn (.branch gn tt_n ts) (.branch xa xl xr))) K V (tm_c (tm_c D1 pn (nI 1)) gn (nI 0)) vals sz md := H1005
                      have e1005 : kx_Fr (tm_T ct (tt_i (tt_p Bx (.branch gn tt_n (.branch pn ts (.branch xa xl xr)))))) z249 z252 := e1005
                      rw [i1004] at e1005
                      have i1005 : tt_i (tt_p Bx (.branch pn (.branch gn tt_n ts) (.branch xa xl xr))) = L0 := (by rw [← i1004]; simp [tt_i_p, tt_p, tt_i])
                      have F1005 := kx_Fr.tr F1004 e1005
                      obtain ⟨⟨f1005_pn, ⟨f1005_gn, -, f1005_ts⟩, ⟨f1005_xa, f1005_xl, f1005_xr⟩⟩, fK1005⟩ := (tt_H_p Bx (.branch pn (.branch gn tt_n ts) (.branch xa xl xr))).mp h1005.2.1
                      refine ri_goto C 5 dJ19_fixAfterInsertion_255 rfl ?_
                      refine ri_lv2 (ih (i + 1) ((false, pn, (.branch gn tt_n ts)) :: Bx) xa xl xr _ _ (by omega) (by omega) ⟨h1005, i1005, F1005, ?_⟩) ⟨rfl, rfl, trivial⟩
                      first
                        | exact Or.inl (by simp only [List.length_cons, List.length_nil] at hln ⊢; omega)
                        | exact Or.inr ⟨by simp only [List.length_cons, List.length_nil] at hln; omega, fun q hq => by cases hq; exact if_pos rfl⟩
                    · exfalso; obtain ⟨A9, C9, hA9⟩ := List.append_of_mem (tt_r_in h212.symm); have nd9 := h1002.2.2.1; simp [tt_i_p, tt_p, tt_i, hA9, List.nodup_append] at nd9
                  · exact absurd h166 (by decide)
                · have h1006 : tm_H z158 ct mp (tt_p Bx (.branch gn (.branch usn usl usr) (.branch pn ts (.branch xa xl xr)))) K V D1 vals sz md := h0
                  have i1006 : tt_i (tt_p Bx (.branch gn (.branch usn usl usr) (.branch pn ts (.branch xa xl xr)))) = L0 := i0
                  have F1006 := F0
                  have nd1006 := h1006.2.2.1
                  obtain ⟨⟨f1006_gn, ⟨f1006_usn, f1006_usl, f1006_usr⟩, ⟨f1006_pn, f1006_ts, ⟨f1006_xa, f1006_xl, f1006_xr⟩⟩⟩, fK1006⟩ := (tt_H_p Bx (.branch gn (.branch usn usl usr) (.branch pn ts (.branch xa xl xr)))).mp h1006.2.1
                  refine ri_callS C km_J19_colorOf q1125 dJ19_fixAfterInsertion_163 (mt_J19_colorOfR htr f1006_usn (h1006.2.2.2 usn)) rfl rfl ⟨⟨(Nat.le_of_ble_eq_true rfl), (Nat.le_of_ble_eq_true rfl)⟩, (Nat.le_of_ble_eq_true rfl), (Nat.le_of_ble_eq_true rfl), (Nat.le_of_ble_eq_true rfl)⟩ (fun v163 z163 q163 => ?_) (fun _ _ _ h => h.elim)
                  obtain ⟨rfl, rfl⟩ := q163
                  refine ri_if_ne C 204 dJ19_fixAfterInsertion_166 rfl (fun h166 => ?_) (fun h166 => ?_)
                  · refine ri_aload_n C dJ19_fixAfterInsertion_204 rfl ?_
                    refine ri_aload_n C dJ19_fixAfterInsertion_205 rfl ?_
                    refine ri_callS C km_J19_parentOf q1116 dJ19_fixAfterInsertion_206 (mt_J19_parentOfR htr (y := (some pn)) f1006_xa) rfl rfl ⟨⟨(Nat.le_of_ble_eq_true rfl), (Nat.le_of_ble_eq_true rfl)⟩, (Nat.le_of_ble_eq_true rfl), (Nat.le_of_ble_eq_true rfl), (Nat.le_of_ble_eq_true rfl)⟩ (fun v206 z206 q206 => ?_) (fun _ _ _ h => h.elim)
                    obtain ⟨rfl, rfl⟩ := q206
                    refine ri_callS C km_J19_leftOf q1119 dJ19_fixAfterInsertion_209 (mt_J19_leftOfR htr (y := (tt_r ts)) f1006_pn) rfl rfl ⟨⟨(Nat.le_of_ble_eq_true rfl), (Nat.le_of_ble_eq_true rfl)⟩, (Nat.le_of_ble_eq_true rfl), (Nat.le_of_ble_eq_true rfl), (Nat.le_of_ble_eq_true rfl)⟩ (fun v209 z209 q209 => ?_) (fun _ _ _ h => h.elim)
                    obtain ⟨rfl, rfl⟩ := q209
                    refine ri_acmp_neQ (rx := (some xa)) (ry := (tt_r ts)) C 225 dJ19_fixAfterInsertion_212 rfl (fun h212 => ?_) (fun h212 => ?_)
                    · refine ri_aload_n C dJ19_fixAfterInsertion_225 rfl ?_
                      refine ri_callS C km_J19_parentOf q1116 dJ19_fixAfterInsertion_226 (mt_J19_parentOfR htr (y := (some pn)) f1006_xa) rfl rfl ⟨⟨(Nat.le_of_ble_eq_true rfl), (Nat.le_of_ble_eq_true rfl)⟩, (Nat.le_of_ble_eq_true rfl), (Nat.le_of_ble_eq_true rfl), (Nat.le_of_ble_eq_true rfl)⟩ (fun v226 z226 q226 => ?_) (fun _ _ _ h => h.elim)
                      obtain ⟨rfl, rfl⟩ := q226
                      refine ri_iconst C dJ19_fixAfterInsertion_229 kc_i1 ?_
                      refine ri_callS C km_J19_setColor q1128 dJ19_fixAfterInsertion_230 (mt_J19_setColorT htr h1006 (an := pn) (by simp [tt_i_p, tt_p, tt_i]) (Or.inr rfl)) rfl rfl ⟨⟨(Nat.le_of_ble_eq_true rfl), (Nat.le_of_ble_eq_true rfl)⟩, (Nat.le_of_ble_eq_true rfl), (Nat.le_of_ble_eq_true rfl), (Nat.le_of_ble_eq_true rfl)⟩ (fun v230 z230 q230 => ?_) (fun _ _ _ h => h.elim)
                      obtain ⟨rfl, h1007, e1007⟩ := q230
                      rw [i1006] at e1007
                      have i1007 := i1006
                      have F1007 := kx_Fr.tr F1006 e1007
                      obtain ⟨⟨f1007_gn, ⟨f1007_usn, f1007_usl, f1007_usr⟩, ⟨f1007_pn, f1007_ts, ⟨f1007_xa, f1007_xl, f1007_xr⟩⟩⟩, fK1007⟩ := (tt_H_p Bx (.branch gn (.branch usn usl usr) (.branch pn ts (.branch xa xl xr)))).mp h1007.2.1
                      refine ri_aload_n C dJ19_fixAfterInsertion_233 rfl ?_
                      refine ri_callS C km_J19_parentOf q1116 dJ19_fixAfterInsertion_234 (mt_J19_parentOfR htr (y := (some pn)) f1007_xa) rfl rfl ⟨⟨(Nat.le_of_ble_eq_true rfl), (Nat.le_of_ble_eq_true rfl)⟩, (Nat.le_of_ble_eq_true rfl), (Nat.le_of_ble_eq_true rfl), (Nat.le_of_ble_eq_true rfl)⟩ (fun v234 z234 q234 => ?_) (fun _ _ _ h => h.elim)
                      obtain ⟨rfl, rfl⟩ := q234
                      refine ri_callS C km_J19_parentOf q1116 dJ19_fixAfterInsertion_237 (mt_J19_parentOfR htr (y := (some gn)) f1007_pn) rfl rfl ⟨⟨(Nat.le_of_ble_eq_true rfl), (Nat.le_of_ble_eq_true rfl)⟩, (Nat.le_of_ble_eq_true rfl), (Nat.le_of_ble_eq_true rfl), (Nat.le_of_ble_eq_true rfl)⟩ (fun v237 z237 q237 => ?_) (fun _ _ _ h => h.elim)
                      obtain ⟨rfl, rfl⟩ := q237
                      refine ri_iconst C dJ19_fixAfterInsertion_240 kc_i0 ?_
                      refine ri_callS C km_J19_setColor q1128 dJ19_fixAfterInsertion_241 (mt_J19_setColorT htr h1007 (an := gn) (by simp [tt_i_p, tt_p, tt_i]) (Or.inl rfl)) rfl rfl ⟨⟨(Nat.le_of_ble_eq_true rfl), (Nat.le_of_ble_eq_true rfl)⟩, (Nat.le_of_ble_eq_true rfl), (Nat.le_of_ble_eq_true rfl), (Nat.le_of_ble_eq_true rfl)⟩ (fun v241 z241 q241 => ?_) (fun _ _ _ h => h.elim)
                      obtain ⟨rfl, h1008, e1008⟩ := q241
                      rw [i1007] at e1008
                      have i1008 := i1007
                      have F1008 := kx_Fr.tr F1007 e1008
                      obtain ⟨⟨f1008_gn, ⟨f1008_usn, f1008_usl, f1008_usr⟩, ⟨f1008_pn, f1008_ts, ⟨f1008_xa, f1008_xl, f1008_xr⟩⟩⟩, fK1008⟩ := (tt_H_p Bx (.branch gn (.branch usn usl usr) (.branch pn ts (.branch xa xl xr)))).mp h1008.2.1
                      refine ri_aload_n C dJ19_fixAfterInsertion_244 rfl ?_
                      refine ri_aload_n C dJ19_fixAfterInsertion_245 rfl ?_
                      refine ri_callS C km_J19_parentOf q1116 dJ19_fixAfterInsertion_246 (mt_J19_parentOfR htr (y := (some pn)) f1008_xa) rfl rfl ⟨⟨(Nat.le_of_ble_eq_true rfl), (Nat.le_of_ble_eq_true rfl)⟩, (Nat.le_of_ble_eq_true rfl), (Nat.le_of_ble_eq_true rfl), (Nat.le_of_ble_eq_true rfl)⟩ (fun v246 z246 q246 => ?_) (fun _ _ _ h => h.elim)
                      obtain ⟨rfl, rfl⟩ := q246
                      refine ri_callS C km_J19_parentOf q1116 dJ19_fixAfterInsertion_249 (mt_J19_parentOfR htr (y := (some gn)) f1008_pn) rfl rfl ⟨⟨(Nat.le_of_ble_eq_true rfl), (Nat.le_of_ble_eq_true rfl)⟩, (Nat.le_of_ble_eq_true rfl), (Nat.le_of_ble_eq_true rfl), (Nat.le_of_ble_eq_true rfl)⟩ (fun v249 z249 q249 => ?_) (fun _ _ _ h => h.elim)
                      obtain ⟨rfl, rfl⟩ := q249
                      refine ri_callV C km_J19_rotateLeft q1131 qs9 dJ19_fixAfterInsertion_252 (mt_J19_rotateLeft htr (Bx := (Bx)) (pn := gn) (rn := pn) (ta := (.branch usn usl usr)) (tb := ts) (td := (.branch xa xl xr)) h1008) rfl rfl (kx_rcN C h1008.1 rfl) ⟨⟨(Nat.le_of_ble_eq_true rfl), (Nat.le_of_ble_eq_true rfl)⟩, (Nat.le_of_ble_eq_true rfl), (Nat.le_of_ble_eq_true rfl), (Nat.le_of_ble_eq_true rfl)⟩ (fun v252 z252 q252 => ?_) (fun _ _ _ h => h.elim)
                      obtain ⟨rfl, H1009, e1009⟩ := q252
                      have h1009 : tm_H z252 ct mp (tt_p Bx (.branch pn (.branch gn (.branch usn usl usr) ts) (.branch xa xl xr))) K V (tm_c (tm_c D1 pn (nI 1)) gn (nI 0)) vals sz md := H1009
                      have e1009 : kx_Fr (tm_T ct (tt_i (tt_p Bx (.branch gn (.branch usn usl usr) (.branch pn ts (.branch xa xl xr)))))) z249 z252 := e1009
                      rw [i1008] at e1009
                      have i1009 : tt_i (tt_p Bx (.branch pn (.branch gn (.branch usn usl usr) ts) (.branch xa xl xr))) = L0 := (by rw [← i1008]; simp [tt_i_p, tt_p, tt_i])
                      have F1009 := kx_Fr.tr F1008 e1009
                      obtain ⟨⟨f1009_pn, ⟨f1009_gn, ⟨f1009_usn, f1009_usl, f1009_usr⟩, f1009_ts⟩, ⟨f1009_xa, f1009_xl, f1009_xr⟩⟩, fK1009⟩ := (tt_H_p Bx (.branch pn (.branch gn (.branch usn usl usr) ts) (.branch xa xl xr))).mp h1009.2.1
                      refine ri_goto C 5 dJ19_fixAfterInsertion_255 rfl ?_
                      refine ri_lv2 (ih (i + 1) ((false, pn, (.branch gn (.branch usn usl usr) ts)) :: Bx) xa xl xr _ _ (by omega) (by omega) ⟨h1009, i1009, F1009, ?_⟩) ⟨rfl, rfl, trivial⟩
                      first
                        | exact Or.inl (by simp only [List.length_cons, List.length_nil] at hln ⊢; omega)
                        | exact Or.inr ⟨by simp only [List.length_cons, List.length_nil] at hln; omega, fun q hq => by cases hq; exact if_pos rfl⟩
                    · exfalso; obtain ⟨A9, C9, hA9⟩ := List.append_of_mem (tt_r_in h212.symm); have nd9 := h1006.2.2.1; simp [tt_i_p, tt_p, tt_i, hA9, List.nodup_append] at nd9
                  · refine ri_aload_n C dJ19_fixAfterInsertion_169 rfl ?_
                    refine ri_callS C km_J19_parentOf q1116 dJ19_fixAfterInsertion_170 (mt_J19_parentOfR htr (y := (some pn)) f1006_xa) rfl rfl ⟨⟨(Nat.le_of_ble_eq_true rfl), (Nat.le_of_ble_eq_true rfl)⟩, (Nat.le_of_ble_eq_true rfl), (Nat.le_of_ble_eq_true rfl), (Nat.le_of_ble_eq_true rfl)⟩ (fun v170 z170 q170 => ?_) (fun _ _ _ h => h.elim)
                    obtain ⟨rfl, rfl⟩ := q170
                    refine ri_iconst C dJ19_fixAfterInsertion_173 kc_i1 ?_
                    refine ri_callS C km_J19_setColor q1128 dJ19_fixAfterInsertion_174 (mt_J19_setColorT htr h1006 (an := pn) (by simp [tt_i_p, tt_p, tt_i]) (Or.inr rfl)) rfl rfl ⟨⟨(Nat.le_of_ble_eq_true rfl), (Nat.le_of_ble_eq_true rfl)⟩, (Nat.le_of_ble_eq_true rfl), (Nat.le_of_ble_eq_true rfl), (Nat.le_of_ble_eq_true rfl)⟩ (fun v174 z174 q174 => ?_) (fun _ _ _ h => h.elim)
                    obtain ⟨rfl, h1010, e1010⟩ := q174
                    rw [i1006] at e1010
                    have i1010 := i1006
                    have F1010 := kx_Fr.tr F1006 e1010
                    obtain ⟨⟨f1010_gn, ⟨f1010_usn, f1010_usl, f1010_usr⟩, ⟨f1010_pn, f1010_ts, ⟨f1010_xa, f1010_xl, f1010_xr⟩⟩⟩, fK1010⟩ := (tt_H_p Bx (.branch gn (.branch usn usl usr) (.branch pn ts (.branch xa xl xr)))).mp h1010.2.1
                    refine ri_aload_n C dJ19_fixAfterInsertion_177 rfl ?_
                    refine ri_iconst C dJ19_fixAfterInsertion_178 kc_i1 ?_
                    refine ri_callS C km_J19_setColor q1128 dJ19_fixAfterInsertion_179 (mt_J19_setColorT htr h1010 (an := usn) (by simp [tt_i_p, tt_p, tt_i]) (Or.inr rfl)) rfl rfl ⟨⟨(Nat.le_of_ble_eq_true rfl), (Nat.le_of_ble_eq_true rfl)⟩, (Nat.le_of_ble_eq_true rfl), (Nat.le_of_ble_eq_true rfl), (Nat.le_of_ble_eq_true rfl)⟩ (fun v179 z179 q179 => ?_) (fun _ _ _ h => h.elim)
                    obtain ⟨rfl, h1011, e1011⟩ := q179
                    rw [i1010] at e1011
                    have i1011 := i1010
                    have F1011 := kx_Fr.tr F1010 e1011
                    obtain ⟨⟨f1011_gn, ⟨f1011_usn, f1011_usl, f1011_usr⟩, ⟨f1011_pn, f1011_ts, ⟨f1011_xa, f1011_xl, f1011_xr⟩⟩⟩, fK1011⟩ := (tt_H_p Bx (.branch gn (.branch usn usl usr) (.branch pn ts (.branch xa xl xr)))).mp h1011.2.1
                    refine ri_aload_n C dJ19_fixAfterInsertion_182 rfl ?_
                    refine ri_callS C km_J19_parentOf q1116 dJ19_fixAfterInsertion_183 (mt_J19_parentOfR htr (y := (some pn)) f1011_xa) rfl rfl ⟨⟨(Nat.le_of_ble_eq_true rfl), (Nat.le_of_ble_eq_true rfl)⟩, (Nat.le_of_ble_eq_true rfl), (Nat.le_of_ble_eq_true rfl), (Nat.le_of_ble_eq_true rfl)⟩ (fun v183 z183 q183 => ?_) (fun _ _ _ h => h.elim)
                    obtain ⟨rfl, rfl⟩ := q183
                    refine ri_callS C km_J19_parentOf q1116 dJ19_fixAfterInsertion_186 (mt_J19_parentOfR htr (y := (some gn)) f1011_pn) rfl rfl ⟨⟨(Nat.le_of_ble_eq_true rfl), (Nat.le_of_ble_eq_true rfl)⟩, (Nat.le_of_ble_eq_true rfl), (Nat.le_of_ble_eq_true rfl), (Nat.le_of_ble_eq_true rfl)⟩ (fun v186 z186 q186 => ?_) (fun _ _ _ h => h.elim)
                    obtain ⟨rfl, rfl⟩ := q186
                    refine ri_iconst C dJ19_fixAfterInsertion_189 kc_i0 ?_
                    refine ri_callS C km_J19_setColor q1128 dJ19_fixAfterInsertion_190 (mt_J19_setColorT htr h1011 (an := gn) (by simp [tt_i_p, tt_p, tt_i]) (Or.inl rfl)) rfl rfl ⟨⟨(Nat.le_of_ble_eq_true rfl), (Nat.le_of_ble_eq_true rfl)⟩, (Nat.le_of_ble_eq_true rfl), (Nat.le_of_ble_eq_true rfl), (Nat.le_of_ble_eq_true rfl)⟩ (fun v190 z190 q190 => ?_) (fun _ _ _ h => h.elim)
                    obtain ⟨rfl, h1012, e1012⟩ := q190
                    rw [i1011] at e1012
                    have i1012 := i1011
                    have F1012 := kx_Fr.tr F1011 e1012
                    obtain ⟨⟨f1012_gn, ⟨f1012_usn, f1012_usl, f1012_usr⟩, ⟨f1012_pn, f1012_ts, ⟨f1012_xa, f1012_xl, f1012_xr⟩⟩⟩, fK1012⟩ := (tt_H_p Bx (.branch gn (.branch usn usl usr) (.branch pn ts (.branch xa xl xr)))).mp h1012.2.1
                    refine ri_aload_n C dJ19_fixAfterInsertion_193 rfl ?_
                    refine ri_callS C km_J19_parentOf q1116 dJ19_fixAfterInsertion_194 (mt_J19_parentOfR htr (y := (some pn)) f1012_xa) rfl rfl ⟨⟨(Nat.le_of_ble_eq_true rfl), (Nat.le_of_ble_eq_true rfl)⟩, (Nat.le_of_ble_eq_true rfl), (Nat.le_of_ble_eq_true rfl), (Nat.le_of_ble_eq_true rfl)⟩ (fun v194 z194 q194 => ?_) (fun _ _ _ h => h.elim)
                    obtain ⟨rfl, rfl⟩ := q194
                    refine ri_callS C km_J19_parentOf q1116 dJ19_fixAfterInsertion_197 (mt_J19_parentOfR htr (y := (some gn)) f1012_pn) rfl rfl ⟨⟨(Nat.le_of_ble_eq_true rfl), (Nat.le_of_ble_eq_true rfl)⟩, (Nat.le_of_ble_eq_true rfl), (Nat.le_of_ble_eq_true rfl), (Nat.le_of_ble_eq_true rfl)⟩ (fun v197 z197 q197 => ?_) (fun _ _ _ h => h.elim)
                    obtain ⟨rfl, rfl⟩ := q197
                    refine ri_astore_n (x := gn) C dJ19_fixAfterInsertion_200 rfl (by decide) ?_
                    refine ri_goto C 255 dJ19_fixAfterInsertion_201 rfl ?_
                    refine ri_goto C 5 dJ19_fixAfterInsertion_255 rfl ?_
                    refine ri_lv2 (ih (i + 1) (Bx) gn (.branch usn usl usr) (.branch pn ts (.branch xa xl xr)) _ _ (by omega) (by omega) ⟨h1012, i1012, F1012, ?_⟩) ⟨rfl, rfl, trivial⟩
                    first
                      | exact Or.inl (by simp only [List.length_cons, List.length_nil] at hln ⊢; omega)
                      | exact Or.inr ⟨by simp only [List.length_cons, List.length_nil] at hln; omega, fun q hq => by cases hq; exact if_pos rfl⟩
              · exfalso; obtain ⟨A9, C9, hA9⟩ := List.append_of_mem (tt_r_in h41.symm); have nd9 := h0.2.2.1; simp [tt_i_p, tt_p, tt_i, hA9, List.nodup_append] at nd9
        · have h0 : tm_H τ ct mp (tt_p Bx (.branch gn (.branch pn ts (.branch xa xl xr)) us)) K V D1 vals sz md := hh1
          have i0 : tt_i (tt_p Bx (.branch gn (.branch pn ts (.branch xa xl xr)) us)) = L0 := hh2
          have F0 := hh3
          obtain ⟨⟨f0_gn, ⟨f0_pn, f0_ts, ⟨f0_xa, f0_xl, f0_xr⟩⟩, f0_us⟩, fK0⟩ := (tt_H_p Bx (.branch gn (.branch pn ts (.branch xa xl xr)) us)).mp h0.2.1
          refine ri_aload_n C dJ19_fixAfterInsertion_5 rfl ?_
          refine ri_ifnull C dJ19_fixAfterInsertion_6 ?_
          refine ri_aload_n C dJ19_fixAfterInsertion_9 rfl ?_
          refine ri_aload_n C dJ19_fixAfterInsertion_10 rfl ?_
          refine ri_getf C dJ19_fixAfterInsertion_11 fr_q577_18 h0.1 (by rfl) ?_
          refine ri_acmp_eqQ (rx := (some xa)) (ry := (tt_r (tt_p Bx (.branch gn (.branch pn ts (.branch xa xl xr)) us)))) C 258 dJ19_fixAfterInsertion_14 rfl (fun h14 => ?_) (fun h14 => ?_)
          · obtain ⟨rn9, rl9, rr9, hr9⟩ : ∃ rn rl rr, (tt_p Bx (.branch gn (.branch pn ts (.branch xa xl xr)) us)) = .branch rn rl rr := tt_rt Bx
            have hc9 : tm_M τ ct K V D1 rn9 (tt_r rl9) (tt_r rr9) none := (by have g9 := h0.2.1; rw [hr9] at g9; exact g9.1)
            refine ri_aload_n C dJ19_fixAfterInsertion_258 rfl ?_
            refine ri_getf C dJ19_fixAfterInsertion_259 fr_q577_18 h0.1 (by rfl) ?_
            rw [hr9]
            refine ri_iconst C dJ19_fixAfterInsertion_262 kc_i1 ?_
            refine ri_putf C dJ19_fixAfterInsertion_263 fd_q1091_19 (fun h => nomatch h) hc9 (Nat.le_of_ble_eq_true rfl) (by rfl) (by rfl) (by dsimp only [List.set] <;> rfl) (fun s263 e263 => ?_)
            exact ri_vret C hQ dJ19_fixAfterInsertion_266 (Nat.le_of_ble_eq_true rfl) (Nat.le_of_ble_eq_true rfl) ⟨rfl, _, _, tm_set_c h0 hc9 e263 (Or.inr rfl), i0, kx_Fr.up2 F0 e263 (tm_T_e (by rw [← i0, hr9]; simp [tt_i]))⟩
          · refine ri_aload_n C dJ19_fixAfterInsertion_17 rfl ?_
            refine ri_getf C dJ19_fixAfterInsertion_18 fr_q1089_19 f0_xa (by rfl) ?_
            refine ri_getf C dJ19_fixAfterInsertion_21 fr_q1091_19 f0_pn (by rfl) ?_
            refine ri_if_ne C 258 dJ19_fixAfterInsertion_24 rfl (fun h24 => ?_) (fun h24 => ?_)
            · obtain ⟨rn9, rl9, rr9, hr9⟩ : ∃ rn rl rr, (tt_p Bx (.branch gn (.branch pn ts (.branch xa xl xr)) us)) = .branch rn rl rr := tt_rt Bx
              have hc9 : tm_M τ ct K V D1 rn9 (tt_r rl9) (tt_r rr9) none := (by have g9 := h0.2.1; rw [hr9] at g9; exact g9.1)
              refine ri_aload_n C dJ19_fixAfterInsertion_258 rfl ?_
              refine ri_getf C dJ19_fixAfterInsertion_259 fr_q577_18 h0.1 (by rfl) ?_
              rw [hr9]
              refine ri_iconst C dJ19_fixAfterInsertion_262 kc_i1 ?_
              refine ri_putf C dJ19_fixAfterInsertion_263 fd_q1091_19 (fun h => nomatch h) hc9 (Nat.le_of_ble_eq_true rfl) (by rfl) (by rfl) (by dsimp only [List.set] <;> rfl) (fun s263 e263 => ?_)
              exact ri_vret C hQ dJ19_fixAfterInsertion_266 (Nat.le_of_ble_eq_true rfl) (Nat.le_of_ble_eq_true rfl) ⟨rfl, _, _, tm_set_c h0 hc9 e263 (Or.inr rfl), i0, kx_Fr.up2 F0 e263 (tm_T_e (by rw [← i0, hr9]; simp [tt_i]))⟩
            · have hln := hms.resolve_right (fun q => absurd ((q.2 pn rfl).symm.trans h24) (by decide))
              refine ri_aload_n C dJ19_fixAfterInsertion_27 rfl ?_
              refine ri_callS C km_J19_parentOf q1116 dJ19_fixAfterInsertion_28 (mt_J19_parentOfR htr (y := (some pn)) f0_xa) rfl rfl ⟨⟨(Nat.le_of_ble_eq_true rfl), (Nat.le_of_ble_eq_true rfl)⟩, (Nat.le_of_ble_eq_true rfl), (Nat.le_of_ble_eq_true rfl), (Nat.le_of_ble_eq_true rfl)⟩ (fun v28 z28 q28 => ?_) (fun _ _ _ h => h.elim)
              obtain ⟨rfl, rfl⟩ := q28
              refine ri_aload_n C dJ19_fixAfterInsertion_31 rfl ?_
              refine ri_callS C km_J19_parentOf q1116 dJ19_fixAfterInsertion_32 (mt_J19_parentOfR htr (y := (some pn)) f0_xa) rfl rfl ⟨⟨(Nat.le_of_ble_eq_true rfl), (Nat.le_of_ble_eq_true rfl)⟩, (Nat.le_of_ble_eq_true rfl), (Nat.le_of_ble_eq_true rfl), (Nat.le_of_ble_eq_true rfl)⟩ (fun v32 z32 q32 => ?_) (fun _ _ _ h => h.elim)
              obtain ⟨rfl, rfl⟩ := q32
              refine ri_callS C km_J19_parentOf q1116 dJ19_fixAfterInsertion_35 (mt_J19_parentOfR htr (y := (some gn)) f0_pn) rfl rfl ⟨⟨(Nat.le_of_ble_eq_true rfl), (Nat.le_of_ble_eq_true rfl)⟩, (Nat.le_of_ble_eq_true rfl), (Nat.le_of_ble_eq_true rfl), (Nat.le_of_ble_eq_true rfl)⟩ (fun v35 z35 q35 => ?_) (fun _ _ _ h => h.elim)
              obtain ⟨rfl, rfl⟩ := q35
              refine ri_callS C km_J19_leftOf q1119 dJ19_fixAfterInsertion_38 (mt_J19_leftOfR htr (y := (some pn)) f0_gn) rfl rfl ⟨⟨(Nat.le_of_ble_eq_true rfl), (Nat.le_of_ble_eq_true rfl)⟩, (Nat.le_of_ble_eq_true rfl), (Nat.le_of_ble_eq_true rfl), (Nat.le_of_ble_eq_true rfl)⟩ (fun v38 z38 q38 => ?_) (fun _ _ _ h => h.elim)
              obtain ⟨rfl, rfl⟩ := q38
              refine ri_acmp_neQ (rx := (some pn)) (ry := (some pn)) C 151 dJ19_fixAfterInsertion_41 rfl (fun h41 => ?_) (fun h41 => ?_)
              · exact absurd rfl h41
              · refine ri_aload_n C dJ19_fixAfterInsertion_44 rfl ?_
                refine ri_callS C km_J19_parentOf q1116 dJ19_fixAfterInsertion_45 (mt_J19_parentOfR htr (y := (some pn)) f0_xa) rfl rfl ⟨⟨(Nat.le_of_ble_eq_true rfl), (Nat.le_of_ble_eq_true rfl)⟩, (Nat.le_of_ble_eq_true rfl), (Nat.le_of_ble_eq_true rfl), (Nat.le_of_ble_eq_true rfl)⟩ (fun v45 z45 q45 => ?_) (fun _ _ _ h => h.elim)
                obtain ⟨rfl, rfl⟩ := q45
                refine ri_callS C km_J19_parentOf q1116 dJ19_fixAfterInsertion_48 (mt_J19_parentOfR htr (y := (some gn)) f0_pn) rfl rfl ⟨⟨(Nat.le_of_ble_eq_true rfl), (Nat.le_of_ble_eq_true rfl)⟩, (Nat.le_of_ble_eq_true rfl), (Nat.le_of_ble_eq_true rfl), (Nat.le_of_ble_eq_true rfl)⟩ (fun v48 z48 q48 => ?_) (fun _ _ _ h => h.elim)
                obtain ⟨rfl, rfl⟩ := q48
                refine ri_callS C km_J19_rightOf q1122 dJ19_fixAfterInsertion_51 (mt_J19_rightOfR htr (y := (tt_r us)) f0_gn) rfl rfl ⟨⟨(Nat.le_of_ble_eq_true rfl), (Nat.le_of_ble_eq_true rfl)⟩, (Nat.le_of_ble_eq_true rfl), (Nat.le_of_ble_eq_true rfl), (Nat.le_of_ble_eq_true rfl)⟩ (fun v51 z51 q51 => ?_) (fun _ _ _ h => h.elim)
                obtain ⟨rfl, rfl⟩ := q51
                refine ri_astore_nQ (x := (tt_r us)) C dJ19_fixAfterInsertion_54 rfl (by decide) ?_
                refine ri_aload_nQ (x := (tt_r us)) C dJ19_fixAfterInsertion_55 rfl ?_
                rcases us with ⟨_⟩ | ⟨usn, usl, usr⟩
                · have h1013 : tm_H z51 ct mp (tt_p Bx (.branch gn (.branch pn ts (.branch xa xl xr)) tt_n)) K V D1 vals sz md := h0
                  have i1013 : tt_i (tt_p Bx (.branch gn (.branch pn ts (.branch xa xl xr)) tt_n)) = L0 := i0
                  have F1013 := F0
                  obtain ⟨⟨f1013_gn, ⟨f1013_pn, f1013_ts, ⟨f1013_xa, f1013_xl, f1013_xr⟩⟩, -⟩, fK1013⟩ := (tt_H_p Bx (.branch gn (.branch pn ts (.branch xa xl xr)) tt_n)).mp h1013.2.1
                  refine ri_callS C km_J19_colorOf q1125 dJ19_fixAfterInsertion_56 (mt_J19_colorOfN htr) rfl rfl ⟨⟨(Nat.le_of_ble_eq_true rfl), (Nat.le_of_ble_eq_true rfl)⟩, (Nat.le_of_ble_eq_true rfl), (Nat.le_of_ble_eq_true rfl), (Nat.le_of_ble_eq_true rfl)⟩ (fun v56 z56 q56 => ?_) (fun _ _ _ h => h.elim)
                  obtain ⟨rfl, rfl⟩ := q56
                  refine ri_if_ne C 97 dJ19_fixAfterInsertion_59 rfl (fun h59 => ?_) (fun h59 => ?_)
                  · refine ri_aload_n C dJ19_fixAfterInsertion_97 rfl ?_
                    refine ri_aload_n C dJ19_fixAfterInsertion_98 rfl ?_
                    refine ri_callS C km_J19_parentOf q1116 dJ19_fixAfterInsertion_99 (mt_J19_parentOfR htr (y := (some pn)) f1013_xa) rfl rfl ⟨⟨(Nat.le_of_ble_eq_true rfl), (Nat.le_of_ble_eq_true rfl)⟩, (Nat.le_of_ble_eq_true rfl), (Nat.le_of_ble_eq_true rfl), (Nat.le_of_ble_eq_true rfl)⟩ (fun v99 z99 q99 => ?_) (fun _ _ _ h => h.elim)
                    obtain ⟨rfl, rfl⟩ := q99
                    refine ri_callS C km_J19_rightOf q1122 dJ19_fixAfterInsertion_102 (mt_J19_rightOfR htr (y := (some xa)) f1013_pn) rfl rfl ⟨⟨(Nat.le_of_ble_eq_true rfl), (Nat.le_of_ble_eq_true rfl)⟩, (Nat.le_of_ble_eq_true rfl), (Nat.le_of_ble_eq_true rfl), (Nat.le_of_ble_eq_true rfl)⟩ (fun v102 z102 q102 => ?_) (fun _ _ _ h => h.elim)
                    obtain ⟨rfl, rfl⟩ := q102
                    refine ri_acmp_neQ (rx := (some xa)) (ry := (some xa)) C 118 dJ19_fixAfterInsertion_105 rfl (fun h105 => ?_) (fun h105 => ?_)
                    · exact absurd rfl h105
                    · refine ri_aload_n C dJ19_fixAfterInsertion_108 rfl ?_
                      refine ri_callS C km_J19_parentOf q1116 dJ19_fixAfterInsertion_109 (mt_J19_parentOfR htr (y := (some pn)) f1013_xa) rfl rfl ⟨⟨(Nat.le_of_ble_eq_true rfl), (Nat.le_of_ble_eq_true rfl)⟩, (Nat.le_of_ble_eq_true rfl), (Nat.le_of_ble_eq_true rfl), (Nat.le_of_ble_eq_true rfl)⟩ (fun v109 z109 q109 => ?_) (fun _ _ _ h => h.elim)
                      obtain ⟨rfl, rfl⟩ := q109
                      refine ri_astore_n (x := pn) C dJ19_fixAfterInsertion_112 rfl (by decide) ?_
                      refine ri_aload_n C dJ19_fixAfterInsertion_113 rfl ?_
                      refine ri_aload_n C dJ19_fixAfterInsertion_114 rfl ?_
                      refine ri_callV C km_J19_rotateLeft q1131 qs9 dJ19_fixAfterInsertion_115 (mt_J19_rotateLeft htr (Bx := ((true, gn, tt_n) :: Bx)) (pn := pn) (rn := xa) (ta := ts) (tb := xl) (td := xr) h1013) rfl rfl (kx_rcN C h1013.1 rfl) ⟨⟨(Nat.le_of_ble_eq_true rfl), (Nat.le_of_ble_eq_true rfl)⟩, (Nat.le_of_ble_eq_true rfl), (Nat.le_of_ble_eq_true rfl), (Nat.le_of_ble_eq_true rfl)⟩ (fun v115 z115 q115 => ?_) (fun _ _ _ h => h.elim)
                      obtain ⟨rfl, H1014, e1014⟩ := q115
                      have h1014 : tm_H z115 ct mp (tt_p Bx (.branch gn (.branch xa (.branch pn ts xl) xr) tt_n)) K V D1 vals sz md := H1014
                      have e1014 : kx_Fr (tm_T ct (tt_i (tt_p Bx (.branch gn (.branch pn ts (.branch xa xl xr)) tt_n)))) z109 z115 := e1014
                      rw [i1013] at e1014
                      have i1014 : tt_i (tt_p Bx (.branch gn (.branch xa (.branch pn ts xl) xr) tt_n)) = L0 := (by rw [← i1013]; simp [tt_i_p, tt_p, tt_i])
                      have F1014 := kx_Fr.tr F1013 e1014
                      obtain ⟨⟨f1014_gn, ⟨f1014_xa, ⟨f1014_pn, f1014_ts, f1014_xl⟩, f1014_xr⟩, -⟩, fK1014⟩ := (tt_H_p Bx (.branch gn (.branch xa (.branch pn ts xl) xr) tt_n)).mp h1014.2.1
                      refine ri_aload_n C dJ19_fixAfterInsertion_118 rfl ?_
                      refine ri_callS C km_J19_parentOf q1116 dJ19_fixAfterInsertion_119 (mt_J19_parentOfR htr (y := (some xa)) f1014_pn) rfl rfl ⟨⟨(Nat.le_of_ble_eq_true rfl), (Nat.le_of_ble_eq_true rfl)⟩, (Nat.le_of_ble_eq_true rfl), (Nat.le_of_ble_eq_true rfl), (Nat.le_of_ble_eq_true rfl)⟩ (fun v119 z119 q119 => ?_) (fun _ _ _ h => h.elim)
                      obtain ⟨rfl, rfl⟩ := q119
                      refine ri_iconst C dJ19_fixAfterInsertion_122 kc_i1 ?_
                      refine ri_callS C km_J19_setColor q1128 dJ19_fixAfterInsertion_123 (mt_J19_setColorT htr h1014 (an := xa) (by simp [tt_i_p, tt_p, tt_i]) (Or.inr rfl)) rfl rfl ⟨⟨(Nat.le_of_ble_eq_true rfl), (Nat.le_of_ble_eq_true rfl)⟩, (Nat.le_of_ble_eq_true rfl), (Nat.le_of_ble_eq_true rfl), (Nat.le_of_ble_eq_true rfl)⟩ (fun v123 z123 q123 => ?_) (fun _ _ _ h => h.elim)
                      obtain ⟨rfl, h1015, e1015⟩ := q123
                      rw [i1014] at e1015
                      have i1015 := i1014
                      have F1015 := kx_Fr.tr F1014 e1015
                      obtain ⟨⟨f1015_gn, ⟨f1015_xa, ⟨f1015_pn, f1015_ts, f1015_xl⟩, f1015_xr⟩, -⟩, fK1015⟩ := (tt_H_p Bx (.branch gn (.branch xa (.branch pn ts xl) xr) tt_n)).mp h1015.2.1
                      refine ri_aload_n C dJ19_fixAfterInsertion_126 rfl ?_
                      refine ri_callS C km_J19_parentOf q1116 dJ19_fixAfterInsertion_127 (mt_J19_parentOfR htr (y := (some xa)) f1015_pn) rfl rfl ⟨⟨(Nat.le_of_ble_eq_true rfl), (Nat.le_of_ble_eq_true rfl)⟩, (Nat.le_of_ble_eq_true rfl), (Nat.le_of_ble_eq_true rfl), (Nat.le_of_ble_eq_true rfl)⟩ (fun v127 z127 q127 => ?_) (fun _ _ _ h => h.elim)
                      obtain ⟨rfl, rfl⟩ := q127
                      refine ri_callS C km_J19_parentOf q1116 dJ19_fixAfterInsertion_130 (mt_J19_parentOfR htr (y := (some gn)) f1015_xa) rfl rfl ⟨⟨(Nat.le_of_ble_eq_true rfl), (Nat.le_of_ble_eq_true rfl)⟩, (Nat.le_of_ble_eq_true rfl), (Nat.le_of_ble_eq_true rfl), (Nat.le_of_ble_eq_true rfl)⟩ (fun v130 z130 q130 => ?_) (fun _ _ _ h => h.elim)
                      obtain ⟨rfl, rfl⟩ := q130
                      refine ri_iconst C dJ19_fixAfterInsertion_133 kc_i0 ?_
                      refine ri_callS C km_J19_setColor q1128 dJ19_fixAfterInsertion_134 (mt_J19_setColorT htr h1015 (an := gn) (by simp [tt_i_p, tt_p, tt_i]) (Or.inl rfl)) rfl rfl ⟨⟨(Nat.le_of_ble_eq_true rfl), (Nat.le_of_ble_eq_true rfl)⟩, (Nat.le_of_ble_eq_true rfl), (Nat.le_of_ble_eq_true rfl), (Nat.le_of_ble_eq_true rfl)⟩ (fun v134 z134 q134 => ?_) (fun _ _ _ h => h.elim)
                      obtain ⟨rfl, h1016, e1016⟩ := q134
                      rw [i1015] at e1016
                      have i1016 := i1015
                      have F1016 := kx_Fr.tr F1015 e1016
                      obtain ⟨⟨f1016_gn, ⟨f1016_xa, ⟨f1016_pn, f1016_ts, f1016_xl⟩, f1016_xr⟩, -⟩, fK1016⟩ := (tt_H_p Bx (.branch gn (.branch xa (.branch pn ts xl) xr) tt_n)).mp h1016.2.1
                      refine ri_aload_n C dJ19_fixAfterInsertion_137 rfl ?_
                      refine ri_aload_n C dJ19_fixAfterInsertion_138 rfl ?_
                      refine ri_callS C km_J19_parentOf q1116 dJ19_fixAfterInsertion_139 (mt_J19_parentOfR htr (y := (some xa)) f1016_pn) rfl rfl ⟨⟨(Nat.le_of_ble_eq_true rfl), (Nat.le_of_ble_eq_true rfl)⟩, (Nat.le_of_ble_eq_true rfl), (Nat.le_of_ble_eq_true rfl), (Nat.le_of_ble_eq_true rfl)⟩ (fun v139 z139 q139 => ?_) (fun _ _ _ h => h.elim)
                      obtain ⟨rfl, rfl⟩ := q139
                      refine ri_callS C km_J19_parentOf q1116 dJ19_fixAfterInsertion_142 (mt_J19_parentOfR htr (y := (some gn)) f1016_xa) rfl rfl ⟨⟨(Nat.le_of_ble_eq_true rfl), (Nat.le_of_ble_eq_true rfl)⟩, (Nat.le_of_ble_eq_true rfl), (Nat.le_of_ble_eq_true rfl), (Nat.le_of_ble_eq_true rfl)⟩ (fun v142 z142 q142 => ?_) (fun _ _ _ h => h.elim)
                      obtain ⟨rfl, rfl⟩ := q142
                      refine ri_callV C km_J19_rotateRight q1135 qs10 dJ19_fixAfterInsertion_145 (mt_J19_rotateRight htr (Bx := (Bx)) (pn := gn) (rn := xa) (ta := tt_n) (tb := xr) (td := (.branch pn ts xl)) h1016) rfl rfl (kx_rcN C h1016.1 rfl) ⟨⟨(Nat.le_of_ble_eq_true rfl), (Nat.le_of_ble_eq_true rfl)⟩, (Nat.le_of_ble_eq_true rfl), (Nat.le_of_ble_eq_true rfl), (Nat.le_of_ble_eq_true rfl)⟩ (fun v145 z145 q145 => ?_) (fun _ _ _ h => h.elim)
                      obtain ⟨rfl, H1017, e1017⟩ := q145
                      have h1017 : tm_H z145 ct mp (tt_p Bx (.branch xa (.branch pn ts xl) (.branch gn xr tt_n))) K V (tm_c (tm_c D1 xa (nI 1)) gn (nI 0)) vals sz md := H1017
                      have e1017 : kx_Fr (tm_T ct (tt_i (tt_p Bx (.branch gn (.branch xa (.branch pn ts xl) xr) tt_n)))) z142 z145 := e1017
                      rw [i1016] at e1017
                      have i1017 : tt_i (tt_p Bx (.branch xa (.branch pn ts xl) (.branch gn xr tt_n))) = L0 := (by rw [← i1016]; simp [tt_i_p, tt_p, tt_i])
                      have F1017 := kx_Fr.tr F1016 e1017
                      obtain ⟨⟨f1017_xa, ⟨f1017_pn, f1017_ts, f1017_xl⟩, ⟨f1017_gn, f1017_xr, -⟩⟩, fK1017⟩ := (tt_H_p Bx (.branch xa (.branch pn ts xl) (.branch gn xr tt_n))).mp h1017.2.1
                      refine ri_goto C 5 dJ19_fixAfterInsertion_148 rfl ?_
                      refine ri_lv2 (ih (i + 1) ((true, xa, (.branch gn xr tt_n)) :: Bx) pn ts xl _ _ (by omega) (by omega) ⟨h1017, i1017, F1017, ?_⟩) ⟨rfl, rfl, trivial⟩
                      first
                        | exact Or.inl (by simp only [List.length_cons, List.length_nil] at hln ⊢; omega)
                        | exact Or.inr ⟨by simp only [List.length_cons, List.length_nil] at hln; omega, fun q hq => by cases hq; exact if_pos rfl⟩
                  · exact absurd h59 (by decide)
                · have h1018 : tm_H z51 ct mp (tt_p Bx (.branch gn (.branch pn ts (.branch xa xl xr)) (.branch usn usl usr))) K V D1 vals sz md := h0
                  have i1018 : tt_i (tt_p Bx (.branch gn (.branch pn ts (.branch xa xl xr)) (.branch usn usl usr))) = L0 := i0
                  have F1018 := F0
                  have nd1018 := h1018.2.2.1
                  obtain ⟨⟨f1018_gn, ⟨f1018_pn, f1018_ts, ⟨f1018_xa, f1018_xl, f1018_xr⟩⟩, ⟨f1018_usn, f1018_usl, f1018_usr⟩⟩, fK1018⟩ := (tt_H_p Bx (.branch gn (.branch pn ts (.branch xa xl xr)) (.branch usn usl usr))).mp h1018.2.1
                  refine ri_callS C km_J19_colorOf q1125 dJ19_fixAfterInsertion_56 (mt_J19_colorOfR htr f1018_usn (h1018.2.2.2 usn)) rfl rfl ⟨⟨(Nat.le_of_ble_eq_true rfl), (Nat.le_of_ble_eq_true rfl)⟩, (Nat.le_of_ble_eq_true rfl), (Nat.le_of_ble_eq_true rfl), (Nat.le_of_ble_eq_true rfl)⟩ (fun v56 z56 q56 => ?_) (fun _ _ _ h => h.elim)
                  obtain ⟨rfl, rfl⟩ := q56
                  refine ri_if_ne C 97 dJ19_fixAfterInsertion_59 rfl (fun h59 => ?_) (fun h59 => ?_)
                  · refine ri_aload_n C dJ19_fixAfterInsertion_97 rfl ?_
                    refine ri_aload_n C dJ19_fixAfterInsertion_98 rfl ?_
                    refine ri_callS C km_J19_parentOf q1116 dJ19_fixAfterInsertion_99 (mt_J19_parentOfR htr (y := (some pn)) f1018_xa) rfl rfl ⟨⟨(Nat.le_of_ble_eq_true rfl), (Nat.le_of_ble_eq_true rfl)⟩, (Nat.le_of_ble_eq_true rfl), (Nat.le_of_ble_eq_true rfl), (Nat.le_of_ble_eq_true rfl)⟩ (fun v99 z99 q99 => ?_) (fun _ _ _ h => h.elim)
                    obtain ⟨rfl, rfl⟩ := q99
                    refine ri_callS C km_J19_rightOf q1122 dJ19_fixAfterInsertion_102 (mt_J19_rightOfR htr (y := (some xa)) f1018_pn) rfl rfl ⟨⟨(Nat.le_of_ble_eq_true rfl), (Nat.le_of_ble_eq_true rfl)⟩, (Nat.le_of_ble_eq_true rfl), (Nat.le_of_ble_eq_true rfl), (Nat.le_of_ble_eq_true rfl)⟩ (fun v102 z102 q102 => ?_) (fun _ _ _ h => h.elim)
                    obtain ⟨rfl, rfl⟩ := q102
                    refine ri_acmp_neQ (rx := (some xa)) (ry := (some xa)) C 118 dJ19_fixAfterInsertion_105 rfl (fun h105 => ?_) (fun h105 => ?_)
                    · exact absurd rfl h105
                    · refine ri_aload_n C dJ19_fixAfterInsertion_108 rfl ?_
                      refine ri_callS C km_J19_parentOf q1116 dJ19_fixAfterInsertion_109 (mt_J19_parentOfR htr (y := (some pn)) f1018_xa) rfl rfl ⟨⟨(Nat.le_of_ble_eq_true rfl), (Nat.le_of_ble_eq_true rfl)⟩, (Nat.le_of_ble_eq_true rfl), (Nat.le_of_ble_eq_true rfl), (Nat.le_of_ble_eq_true rfl)⟩ (fun v109 z109 q109 => ?_) (fun _ _ _ h => h.elim)
                      obtain ⟨rfl, rfl⟩ := q109
                      refine ri_astore_n (x := pn) C dJ19_fixAfterInsertion_112 rfl (by decide) ?_
                      refine ri_aload_n C dJ19_fixAfterInsertion_113 rfl ?_
                      refine ri_aload_n C dJ19_fixAfterInsertion_114 rfl ?_
                      refine ri_callV C km_J19_rotateLeft q1131 qs9 dJ19_fixAfterInsertion_115 (mt_J19_rotateLeft htr (Bx := ((true, gn, (.branch usn usl usr)) :: Bx)) (pn := pn) (rn := xa) (ta := ts) (tb := xl) (td := xr) h1018) rfl rfl (kx_rcN C h1018.1 rfl) ⟨⟨(Nat.le_of_ble_eq_true rfl), (Nat.le_of_ble_eq_true rfl)⟩, (Nat.le_of_ble_eq_true rfl), (Nat.le_of_ble_eq_true rfl), (Nat.le_of_ble_eq_true rfl)⟩ (fun v115 z115 q115 => ?_) (fun _ _ _ h => h.elim)
                      obtain ⟨rfl, H1019, e1019⟩ := q115
                      have h1019 : tm_H z115 ct mp (tt_p Bx (.branch gn (.branch xa (.branch pn ts xl) xr) (.branch usn usl usr))) K V D1 vals sz md := H1019
                      have e1019 : kx_Fr (tm_T ct (tt_i (tt_p Bx (.branch gn (.branch pn ts (.branch xa xl xr)) (.branch usn usl usr))))) z109 z115 := e1019
                      rw [i1018] at e1019
                      have i1019 : tt_i (tt_p Bx (.branch gn (.branch xa (.branch pn ts xl) xr) (.branch usn usl usr))) = L0 := (by rw [← i1018]; simp [tt_i_p, tt_p, tt_i])
                      have F1019 := kx_Fr.tr F1018 e1019
                      obtain ⟨⟨f1019_gn, ⟨f1019_xa, ⟨f1019_pn, f1019_ts, f1019_xl⟩, f1019_xr⟩, ⟨f1019_usn, f1019_usl, f1019_usr⟩⟩, fK1019⟩ := (tt_H_p Bx (.branch gn (.branch xa (.branch pn ts xl) xr) (.branch usn usl usr))).mp h1019.2.1
                      refine ri_aload_n C dJ19_fixAfterInsertion_118 rfl ?_
                      refine ri_callS C km_J19_parentOf q1116 dJ19_fixAfterInsertion_119 (mt_J19_parentOfR htr (y := (some xa)) f1019_pn) rfl rfl ⟨⟨(Nat.le_of_ble_eq_true rfl), (Nat.le_of_ble_eq_true rfl)⟩, (Nat.le_of_ble_eq_true rfl), (Nat.le_of_ble_eq_true rfl), (Nat.le_of_ble_eq_true rfl)⟩ (fun v119 z119 q119 => ?_) (fun _ _ _ h => h.elim)
                      obtain ⟨rfl, rfl⟩ := q119
                      refine ri_iconst C dJ19_fixAfterInsertion_122 kc_i1 ?_
                      refine ri_callS C km_J19_setColor q1128 dJ19_fixAfterInsertion_123 (mt_J19_setColorT htr h1019 (an := xa) (by simp [tt_i_p, tt_p, tt_i]) (Or.inr rfl)) rfl rfl ⟨⟨(Nat.le_of_ble_eq_true rfl), (Nat.le_of_ble_eq_true rfl)⟩, (Nat.le_of_ble_eq_true rfl), (Nat.le_of_ble_eq_true rfl), (Nat.le_of_ble_eq_true rfl)⟩ (fun v123 z123 q123 => ?_) (fun _ _ _ h => h.elim)
                      obtain ⟨rfl, h1020, e1020⟩ := q123
                      rw [i1019] at e1020
                      have i1020 := i1019
                      have F1020 := kx_Fr.tr F1019 e1020
                      obtain ⟨⟨f1020_gn, ⟨f1020_xa, ⟨f1020_pn, f1020_ts, f1020_xl⟩, f1020_xr⟩, ⟨f1020_usn, f1020_usl, f1020_usr⟩⟩, fK1020⟩ := (tt_H_p Bx (.branch gn (.branch xa (.branch pn ts xl) xr) (.branch usn usl usr))).mp h1020.2.1
                      refine ri_aload_n C dJ19_fixAfterInsertion_126 rfl ?_
                      refine ri_callS C km_J19_parentOf q1116 dJ19_fixAfterInsertion_127 (mt_J19_parentOfR htr (y := (some xa)) f1020_pn) rfl rfl ⟨⟨(Nat.le_of_ble_eq_true rfl), (Nat.le_of_ble_eq_true rfl)⟩, (Nat.le_of_ble_eq_true rfl), (Nat.le_of_ble_eq_true rfl), (Nat.le_of_ble_eq_true rfl)⟩ (fun v127 z127 q127 => ?_) (fun _ _ _ h => h.elim)
                      obtain ⟨rfl, rfl⟩ := q127
                      refine ri_callS C km_J19_parentOf q1116 dJ19_fixAfterInsertion_130 (mt_J19_parentOfR htr (y := (some gn)) f1020_xa) rfl rfl ⟨⟨(Nat.le_of_ble_eq_true rfl), (Nat.le_of_ble_eq_true rfl)⟩, (Nat.le_of_ble_eq_true rfl), (Nat.le_of_ble_eq_true rfl), (Nat.le_of_ble_eq_true rfl)⟩ (fun v130 z130 q130 => ?_) (fun _ _ _ h => h.elim)
                      obtain ⟨rfl, rfl⟩ := q130
                      refine ri_iconst C dJ19_fixAfterInsertion_133 kc_i0 ?_
                      refine ri_callS C km_J19_setColor q1128 dJ19_fixAfterInsertion_134 (mt_J19_setColorT htr h1020 (an := gn) (by simp [tt_i_p, tt_p, tt_i]) (Or.inl rfl)) rfl rfl ⟨⟨(Nat.le_of_ble_eq_true rfl), (Nat.le_of_ble_eq_true rfl)⟩, (Nat.le_of_ble_eq_true rfl), (Nat.le_of_ble_eq_true rfl), (Nat.le_of_ble_eq_true rfl)⟩ (fun v134 z134 q134 => ?_) (fun _ _ _ h => h.elim)
                      obtain ⟨rfl, h1021, e1021⟩ := q134
                      rw [i1020] at e1021
                      have i1021 := i1020
                      have F1021 := kx_Fr.tr F1020 e1021
                      obtain ⟨⟨f1021_gn, ⟨f1021_xa, ⟨f1021_pn, f1021_ts, f1021_xl⟩, f1021_xr⟩, ⟨f1021_usn, f1021_usl, f1021_usr⟩⟩, fK1021⟩ := (tt_H_p Bx (.branch gn (.branch xa (.branch pn ts xl) xr) (.branch usn usl usr))).mp h1021.2.1
                      refine ri_aload_n C dJ19_fixAfterInsertion_137 rfl ?_
                      refine ri_aload_n C dJ19_fixAfterInsertion_138 rfl ?_
                      refine ri_callS C km_J19_parentOf q1116 dJ19_fixAfterInsertion_139 (mt_J19_parentOfR htr (y := (some xa)) f1021_pn) rfl rfl ⟨⟨(Nat.le_of_ble_eq_true rfl), (Nat.le_of_ble_eq_true rfl)⟩, (Nat.le_of_ble_eq_true rfl), (Nat.le_of_ble_eq_true rfl), (Nat.le_of_ble_eq_true rfl)⟩ (fun v139 z139 q139 => ?_) (fun _ _ _ h => h.elim)
                      obtain ⟨rfl, rfl⟩ := q139
                      refine ri_callS C km_J19_parentOf q1116 dJ19_fixAfterInsertion_142 (mt_J19_parentOfR htr (y := (some gn)) f1021_xa) rfl rfl ⟨⟨(Nat.le_of_ble_eq_true rfl), (Nat.le_of_ble_eq_true rfl)⟩, (Nat.le_of_ble_eq_true rfl), (Nat.le_of_ble_eq_true rfl), (Nat.le_of_ble_eq_true rfl)⟩ (fun v142 z142 q142 => ?_) (fun _ _ _ h => h.elim)
                      obtain ⟨rfl, rfl⟩ := q142
                      refine ri_callV C km_J19_rotateRight q1135 qs10 dJ19_fixAfterInsertion_145 (mt_J19_rotateRight htr (Bx := (Bx)) (pn := gn) (rn := xa) (ta := (.branch usn usl usr)) (tb := xr) (td := (.branch pn ts xl)) h1021) rfl rfl (kx_rcN C h1021.1 rfl) ⟨⟨(Nat.le_of_ble_eq_true rfl), (Nat.le_of_ble_eq_true rfl)⟩, (Nat.le_of_ble_eq_true rfl), (Nat.le_of_ble_eq_true rfl), (Nat.le_of_ble_eq_true rfl)⟩ (fun v145 z145 q145 => ?_) (fun _ _ _ h => h.elim)
                      obtain ⟨rfl, H1022, e1022⟩ := q145
                      have h1022 : tm_H z145 ct mp (tt_p Bx (.branch xa (.branch pn ts xl) (.branch gn xr (.branch usn usl usr)))) K V (tm_c (tm_c D1 xa (nI 1)) gn (nI 0)) vals sz md := H1022
                      have e1022 : kx_Fr (tm_T ct (tt_i (tt_p Bx (.branch gn (.branch xa (.branch pn ts xl) xr) (.branch usn usl usr))))) z142 z145 := e1022
                      rw [i1021] at e1022
                      have i1022 : tt_i (tt_p Bx (.branch xa (.branch pn ts xl) (.branch gn xr (.branch usn usl usr)))) = L0 := (by rw [← i1021]; simp [tt_i_p, tt_p, tt_i])
                      have F1022 := kx_Fr.tr F1021 e1022
                      obtain ⟨⟨f1022_xa, ⟨f1022_pn, f1022_ts, f1022_xl⟩, ⟨f1022_gn, f1022_xr, ⟨f1022_usn, f1022_usl, f1022_usr⟩⟩⟩, fK1022⟩ := (tt_H_p Bx (.branch xa (.branch pn ts xl) (.branch gn xr (.branch usn usl usr)))).mp h1022.2.1
                      refine ri_goto C 5 dJ19_fixAfterInsertion_148 rfl ?_
                      refine ri_lv2 (ih (i + 1) ((true, xa, (.branch gn xr (.branch usn usl usr))) :: Bx) pn ts xl _ _ (by omega) (by omega) ⟨h1022, i1022, F1022, ?_⟩) ⟨rfl, rfl, trivial⟩
                      first
                        | exact Or.inl (by simp only [List.length_cons, List.length_nil] at hln ⊢; omega)
                        | exact Or.inr ⟨by simp only [List.length_cons, List.length_nil] at hln; omega, fun q hq => by cases hq; exact if_pos rfl⟩
                  · refine ri_aload_n C dJ19_fixAfterInsertion_62 rfl ?_
                    refine ri_callS C km_J19_parentOf q1116 dJ19_fixAfterInsertion_63 (mt_J19_parentOfR htr (y := (some pn)) f1018_xa) rfl rfl ⟨⟨(Nat.le_of_ble_eq_true rfl), (Nat.le_of_ble_eq_true rfl)⟩, (Nat.le_of_ble_eq_true rfl), (Nat.le_of_ble_eq_true rfl), (Nat.le_of_ble_eq_true rfl)⟩ (fun v63 z63 q63 => ?_) (fun _ _ _ h => h.elim)
                    obtain ⟨rfl, rfl⟩ := q63
                    refine ri_iconst C dJ19_fixAfterInsertion_66 kc_i1 ?_
                    refine ri_callS C km_J19_setColor q1128 dJ19_fixAfterInsertion_67 (mt_J19_setColorT htr h1018 (an := pn) (by simp [tt_i_p, tt_p, tt_i]) (Or.inr rfl)) rfl rfl ⟨⟨(Nat.le_of_ble_eq_true rfl), (Nat.le_of_ble_eq_true rfl)⟩, (Nat.le_of_ble_eq_true rfl), (Nat.le_of_ble_eq_true rfl), (Nat.le_of_ble_eq_true rfl)⟩ (fun v67 z67 q67 => ?_) (fun _ _ _ h => h.elim)
                    obtain ⟨rfl, h1023, e1023⟩ := q67
                    rw [i1018] at e1023
                    have i1023 := i1018
                    have F1023 := kx_Fr.tr F1018 e1023
                    obtain ⟨⟨f1023_gn, ⟨f1023_pn, f1023_ts, ⟨f1023_xa, f1023_xl, f1023_xr⟩⟩, ⟨f1023_usn, f1023_usl, f1023_usr⟩⟩, fK1023⟩ := (tt_H_p Bx (.branch gn (.branch pn ts (.branch xa xl xr)) (.branch usn usl usr))).mp h1023.2.1
                    refine ri_aload_n C dJ19_fixAfterInsertion_70 rfl ?_
                    refine ri_iconst C dJ19_fixAfterInsertion_71 kc_i1 ?_
                    refine ri_callS C km_J19_setColor q1128 dJ19_fixAfterInsertion_72 (mt_J19_setColorT htr h1023 (an := usn) (by simp [tt_i_p, tt_p, tt_i]) (Or.inr rfl)) rfl rfl ⟨⟨(Nat.le_of_ble_eq_true rfl), (Nat.le_of_ble_eq_true rfl)⟩, (Nat.le_of_ble_eq_true rfl), (Nat.le_of_ble_eq_true rfl), (Nat.le_of_ble_eq_true rfl)⟩ (fun v72 z72 q72 => ?_) (fun _ _ _ h => h.elim)
                    obtain ⟨rfl, h1024, e1024⟩ := q72
                    rw [i1023] at e1024
                    have i1024 := i1023
                    have F1024 := kx_Fr.tr F1023 e1024
                    obtain ⟨⟨f1024_gn, ⟨f1024_pn, f1024_ts, ⟨f1024_xa, f1024_xl, f1024_xr⟩⟩, ⟨f1024_usn, f1024_usl, f1024_usr⟩⟩, fK1024⟩ := (tt_H_p Bx (.branch gn (.branch pn ts (.branch xa xl xr)) (.branch usn usl usr))).mp h1024.2.1
                    refine ri_aload_n C dJ19_fixAfterInsertion_75 rfl ?_
                    refine ri_callS C km_J19_parentOf q1116 dJ19_fixAfterInsertion_76 (mt_J19_parentOfR htr (y := (some pn)) f1024_xa) rfl rfl ⟨⟨(Nat.le_of_ble_eq_true rfl), (Nat.le_of_ble_eq_true rfl)⟩, (Nat.le_of_ble_eq_true rfl), (Nat.le_of_ble_eq_true rfl), (Nat.le_of_ble_eq_true rfl)⟩ (fun v76 z76 q76 => ?_) (fun _ _ _ h => h.elim)
                    obtain ⟨rfl, rfl⟩ := q76
                    refine ri_callS C km_J19_parentOf q1116 dJ19_fixAfterInsertion_79 (mt_J19_parentOfR htr (y := (some gn)) f1024_pn) rfl rfl ⟨⟨(Nat.le_of_ble_eq_true rfl), (Nat.le_of_ble_eq_true rfl)⟩, (Nat.le_of_ble_eq_true rfl), (Nat.le_of_ble_eq_true rfl), (Nat.le_of_ble_eq_true rfl)⟩ (fun v79 z79 q79 => ?_) (fun _ _ _ h => h.elim)
                    obtain ⟨rfl, rfl⟩ := q79
                    refine ri_iconst C dJ19_fixAfterInsertion_82 kc_i0 ?_
                    refine ri_callS C km_J19_setColor q1128 dJ19_fixAfterInsertion_83 (mt_J19_setColorT htr h1024 (an := gn) (by simp [tt_i_p, tt_p, tt_i]) (Or.inl rfl)) rfl rfl ⟨⟨(Nat.le_of_ble_eq_true rfl), (Nat.le_of_ble_eq_true rfl)⟩, (Nat.le_of_ble_eq_true rfl), (Nat.le_of_ble_eq_true rfl), (Nat.le_of_ble_eq_true rfl)⟩ (fun v83 z83 q83 => ?_) (fun _ _ _ h => h.elim)
                    obtain ⟨rfl, h1025, e1025⟩ := q83
                    rw [i1024] at e1025
                    have i1025 := i1024
                    have F1025 := kx_Fr.tr F1024 e1025
                    obtain ⟨⟨f1025_gn, ⟨f1025_pn, f1025_ts, ⟨f1025_xa, f1025_xl, f1025_xr⟩⟩, ⟨f1025_usn, f1025_usl, f1025_usr⟩⟩, fK1025⟩ := (tt_H_p Bx (.branch gn (.branch pn ts (.branch xa xl xr)) (.branch usn usl usr))).mp h1025.2.1
                    refine ri_aload_n C dJ19_fixAfterInsertion_86 rfl ?_
                    refine ri_callS C km_J19_parentOf q1116 dJ19_fixAfterInsertion_87 (mt_J19_parentOfR htr (y := (some pn)) f1025_xa) rfl rfl ⟨⟨(Nat.le_of_ble_eq_true rfl), (Nat.le_of_ble_eq_true rfl)⟩, (Nat.le_of_ble_eq_true rfl), (Nat.le_of_ble_eq_true rfl), (Nat.le_of_ble_eq_true rfl)⟩ (fun v87 z87 q87 => ?_) (fun _ _ _ h => h.elim)
                    obtain ⟨rfl, rfl⟩ := q87
                    refine ri_callS C km_J19_parentOf q1116 dJ19_fixAfterInsertion_90 (mt_J19_parentOfR htr (y := (some gn)) f1025_pn) rfl rfl ⟨⟨(Nat.le_of_ble_eq_true rfl), (Nat.le_of_ble_eq_true rfl)⟩, (Nat.le_of_ble_eq_true rfl), (Nat.le_of_ble_eq_true rfl), (Nat.le_of_ble_eq_true rfl)⟩ (fun v90 z90 q90 => ?_) (fun _ _ _ h => h.elim)
                    obtain ⟨rfl, rfl⟩ := q90
                    refine ri_astore_n (x := gn) C dJ19_fixAfterInsertion_93 rfl (by decide) ?_
                    refine ri_goto C 148 dJ19_fixAfterInsertion_94 rfl ?_
                    refine ri_goto C 5 dJ19_fixAfterInsertion_148 rfl ?_
                    refine ri_lv2 (ih (i + 1) (Bx) gn (.branch pn ts (.branch xa xl xr)) (.branch usn usl usr) _ _ (by omega) (by omega) ⟨h1025, i1025, F1025, ?_⟩) ⟨rfl, rfl, trivial⟩
                    first
                      | exact Or.inl (by simp only [List.length_cons, List.length_nil] at hln ⊢; omega)
                      | exact Or.inr ⟨by simp only [List.length_cons, List.length_nil] at hln; omega, fun q hq => by cases hq; exact if_pos rfl⟩
      · rcases Bx with _ | ⟨⟨_ | _, gn, us⟩, Bx⟩
        · have h0 : tm_H τ ct mp (tt_p [] (.branch pn (.branch xa xl xr) ts)) K V D1 vals sz md := hh1
          have i0 : tt_i (tt_p [] (.branch pn (.branch xa xl xr) ts)) = L0 := hh2
          have F0 := hh3
          obtain ⟨⟨f0_pn, ⟨f0_xa, f0_xl, f0_xr⟩, f0_ts⟩, fK0⟩ := (tt_H_p [] (.branch pn (.branch xa xl xr) ts)).mp h0.2.1
          refine ri_aload_n C dJ19_fixAfterInsertion_5 rfl ?_
          refine ri_ifnull C dJ19_fixAfterInsertion_6 ?_
          refine ri_aload_n C dJ19_fixAfterInsertion_9 rfl ?_
          refine ri_aload_n C dJ19_fixAfterInsertion_10 rfl ?_
          refine ri_getf C dJ19_fixAfterInsertion_11 fr_q577_18 h0.1 (by rfl) ?_
          refine ri_acmp_eqQ (rx := (some xa)) (ry := (some pn)) C 258 dJ19_fixAfterInsertion_14 rfl (fun h14 => ?_) (fun h14 => ?_)
          · exfalso; injection h14 with q9; subst q9; have nd9 := h0.2.2.1; simp [tt_i_p, tt_p, tt_i, List.nodup_append] at nd9
          · refine ri_aload_n C dJ19_fixAfterInsertion_17 rfl ?_
            refine ri_getf C dJ19_fixAfterInsertion_18 fr_q1089_19 f0_xa (by rfl) ?_
            refine ri_getf C dJ19_fixAfterInsertion_21 fr_q1091_19 f0_pn (by rfl) ?_
            refine ri_if_ne C 258 dJ19_fixAfterInsertion_24 rfl (fun h24 => ?_) (fun h24 => ?_)
            · obtain ⟨rn9, rl9, rr9, hr9⟩ : ∃ rn rl rr, (tt_p [] (.branch pn (.branch xa xl xr) ts)) = .branch rn rl rr := tt_rt []
              have hc9 : tm_M τ ct K V D1 rn9 (tt_r rl9) (tt_r rr9) none := (by have g9 := h0.2.1; rw [hr9] at g9; exact g9.1)
              refine ri_aload_n C dJ19_fixAfterInsertion_258 rfl ?_
              refine ri_getf C dJ19_fixAfterInsertion_259 fr_q577_18 h0.1 (by rfl) ?_
              rw [hr9]
              refine ri_iconst C dJ19_fixAfterInsertion_262 kc_i1 ?_
              refine ri_putf C dJ19_fixAfterInsertion_263 fd_q1091_19 (fun h => nomatch h) hc9 (Nat.le_of_ble_eq_true rfl) (by rfl) (by rfl) (by dsimp only [List.set] <;> rfl) (fun s263 e263 => ?_)
              exact ri_vret C hQ dJ19_fixAfterInsertion_266 (Nat.le_of_ble_eq_true rfl) (Nat.le_of_ble_eq_true rfl) ⟨rfl, _, _, tm_set_c h0 hc9 e263 (Or.inr rfl), i0, kx_Fr.up2 F0 e263 (tm_T_e (by rw [← i0, hr9]; simp [tt_i]))⟩
            · have hln := hms.resolve_right (fun q => absurd ((q.2 pn rfl).symm.trans h24) (by decide))
              refine ri_aload_n C dJ19_fixAfterInsertion_27 rfl ?_
              refine ri_callS C km_J19_parentOf q1116 dJ19_fixAfterInsertion_28 (mt_J19_parentOfR htr (y := (some pn)) f0_xa) rfl rfl ⟨⟨(Nat.le_of_ble_eq_true rfl), (Nat.le_of_ble_eq_true rfl)⟩, (Nat.le_of_ble_eq_true rfl), (Nat.le_of_ble_eq_true rfl), (Nat.le_of_ble_eq_true rfl)⟩ (fun v28 z28 q28 => ?_) (fun _ _ _ h => h.elim)
              obtain ⟨rfl, rfl⟩ := q28
              refine ri_aload_n C dJ19_fixAfterInsertion_31 rfl ?_
              refine ri_callS C km_J19_parentOf q1116 dJ19_fixAfterInsertion_32 (mt_J19_parentOfR htr (y := (some pn)) f0_xa) rfl rfl ⟨⟨(Nat.le_of_ble_eq_true rfl), (Nat.le_of_ble_eq_true rfl)⟩, (Nat.le_of_ble_eq_true rfl), (Nat.le_of_ble_eq_true rfl), (Nat.le_of_ble_eq_true rfl)⟩ (fun v32 z32 q32 => ?_) (fun _ _ _ h => h.elim)
              obtain ⟨rfl, rfl⟩ := q32
              refine ri_callS C km_J19_parentOf q1116 dJ19_fixAfterInsertion_35 (mt_J19_parentOfR htr (y := none) f0_pn) rfl rfl ⟨⟨(Nat.le_of_ble_eq_true rfl), (Nat.le_of_ble_eq_true rfl)⟩, (Nat.le_of_ble_eq_true rfl), (Nat.le_of_ble_eq_true rfl), (Nat.le_of_ble_eq_true rfl)⟩ (fun v35 z35 q35 => ?_) (fun _ _ _ h => h.elim)
              obtain ⟨rfl, rfl⟩ := q35
              refine ri_callS C km_J19_leftOf q1119 dJ19_fixAfterInsertion_38 (mt_J19_leftOfN htr) rfl rfl ⟨⟨(Nat.le_of_ble_eq_true rfl), (Nat.le_of_ble_eq_true rfl)⟩, (Nat.le_of_ble_eq_true rfl), (Nat.le_of_ble_eq_true rfl), (Nat.le_of_ble_eq_true rfl)⟩ (fun v38 z38 q38 => ?_) (fun _ _ _ h => h.elim)
              obtain ⟨rfl, rfl⟩ := q38
              refine ri_acmp_neQ (rx := (some pn)) (ry := none) C 151 dJ19_fixAfterInsertion_41 rfl (fun h41 => ?_) (fun h41 => ?_)
              · refine ri_aload_n C dJ19_fixAfterInsertion_151 rfl ?_
                refine ri_callS C km_J19_parentOf q1116 dJ19_fixAfterInsertion_152 (mt_J19_parentOfR htr (y := (some pn)) f0_xa) rfl rfl ⟨⟨(Nat.le_of_ble_eq_true rfl), (Nat.le_of_ble_eq_true rfl)⟩, (Nat.le_of_ble_eq_true rfl), (Nat.le_of_ble_eq_true rfl), (Nat.le_of_ble_eq_true rfl)⟩ (fun v152 z152 q152 => ?_) (fun _ _ _ h => h.elim)
                obtain ⟨rfl, rfl⟩ := q152
                refine ri_callS C km_J19_parentOf q1116 dJ19_fixAfterInsertion_155 (mt_J19_parentOfR htr (y := none) f0_pn) rfl rfl ⟨⟨(Nat.le_of_ble_eq_true rfl), (Nat.le_of_ble_eq_true rfl)⟩, (Nat.le_of_ble_eq_true rfl), (Nat.le_of_ble_eq_true rfl), (Nat.le_of_ble_eq_true rfl)⟩ (fun v155 z155 q155 => ?_) (fun _ _ _ h => h.elim)
                obtain ⟨rfl, rfl⟩ := q155
                refine ri_callS C km_J19_leftOf q1119 dJ19_fixAfterInsertion_158 (mt_J19_leftOfN htr) rfl rfl ⟨⟨(Nat.le_of_ble_eq_true rfl), (Nat.le_of_ble_eq_true rfl)⟩, (Nat.le_of_ble_eq_true rfl), (Nat.le_of_ble_eq_true rfl), (Nat.le_of_ble_eq_true rfl)⟩ (fun v158 z158 q158 => ?_) (fun _ _ _ h => h.elim)
                obtain ⟨rfl, rfl⟩ := q158
                refine ri_astore_nN C dJ19_fixAfterInsertion_161 rfl (by decide) ?_
                refine ri_aload_nN C dJ19_fixAfterInsertion_162 rfl ?_
                refine ri_callS C km_J19_colorOf q1125 dJ19_fixAfterInsertion_163 (mt_J19_colorOfN htr) rfl rfl ⟨⟨(Nat.le_of_ble_eq_true rfl), (Nat.le_of_ble_eq_true rfl)⟩, (Nat.le_of_ble_eq_true rfl), (Nat.le_of_ble_eq_true rfl), (Nat.le_of_ble_eq_true rfl)⟩ (fun v163 z163 q163 => ?_) (fun _ _ _ h => h.elim)
                obtain ⟨rfl, rfl⟩ := q163
                refine ri_if_ne C 204 dJ19_fixAfterInsertion_166 rfl (fun h166 => ?_) (fun h166 => ?_)
                · refine ri_aload_n C dJ19_fixAfterInsertion_204 rfl ?_
                  refine ri_aload_n C dJ19_fixAfterInsertion_205 rfl ?_
                  refine ri_callS C km_J19_parentOf q1116 dJ19_fixAfterInsertion_206 (mt_J19_parentOfR htr (y := (some pn)) f0_xa) rfl rfl ⟨⟨(Nat.le_of_ble_eq_true rfl), (Nat.le_of_ble_eq_true rfl)⟩, (Nat.le_of_ble_eq_true rfl), (Nat.le_of_ble_eq_true rfl), (Nat.le_of_ble_eq_true rfl)⟩ (fun v206 z206 q206 => ?_) (fun _ _ _ h => h.elim)
                  obtain ⟨rfl, rfl⟩ := q206
                  refine ri_callS C km_J19_leftOf q1119 dJ19_fixAfterInsertion_209 (mt_J19_leftOfR htr (y := (some xa)) f0_pn) rfl rfl ⟨⟨(Nat.le_of_ble_eq_true rfl), (Nat.le_of_ble_eq_true rfl)⟩, (Nat.le_of_ble_eq_true rfl), (Nat.le_of_ble_eq_true rfl), (Nat.le_of_ble_eq_true rfl)⟩ (fun v209 z209 q209 => ?_) (fun _ _ _ h => h.elim)
                  obtain ⟨rfl, rfl⟩ := q209
                  refine ri_acmp_neQ (rx := (some xa)) (ry := (some xa)) C 225 dJ19_fixAfterInsertion_212 rfl (fun h212 => ?_) (fun h212 => ?_)
                  · exact absurd rfl h212
                  · refine ri_aload_n C dJ19_fixAfterInsertion_215 rfl ?_
                    refine ri_callS C km_J19_parentOf q1116 dJ19_fixAfterInsertion_216 (mt_J19_parentOfR htr (y := (some pn)) f0_xa) rfl rfl ⟨⟨(Nat.le_of_ble_eq_true rfl), (Nat.le_of_ble_eq_true rfl)⟩, (Nat.le_of_ble_eq_true rfl), (Nat.le_of_ble_eq_true rfl), (Nat.le_of_ble_eq_true rfl)⟩ (fun v216 z216 q216 => ?_) (fun _ _ _ h => h.elim)
                    obtain ⟨rfl, rfl⟩ := q216
                    refine ri_astore_n (x := pn) C dJ19_fixAfterInsertion_219 rfl (by decide) ?_
                    refine ri_aload_n C dJ19_fixAfterInsertion_220 rfl ?_
                    refine ri_aload_n C dJ19_fixAfterInsertion_221 rfl ?_
                    refine ri_callV C km_J19_rotateRight q1135 qs10 dJ19_fixAfterInsertion_222 (mt_J19_rotateRight htr (Bx := ([])) (pn := pn) (rn := xa) (ta := ts) (tb := xr) (td := xl) h0) rfl rfl (kx_rcN C h0.1 rfl) ⟨⟨(Nat.le_of_ble_eq_true rfl), (Nat.le_of_ble_eq_true rfl)⟩, (Nat.le_of_ble_eq_true rfl), (Nat.le_of_ble_eq_true rfl), (Nat.le_of_ble_eq_true rfl)⟩ (fun v222 z222 q222 => ?_) (fun _ _ _ h => h.elim)
                    obtain ⟨rfl, H1026, e1026⟩ := q222
                    have h1026 : tm_H z222 ct mp (tt_p [] (.branch xa xl (.branch pn xr ts))) K V D1 vals sz md := H1026
                    have e1026 : kx_Fr (tm_T ct (tt_i (tt_p [] (.branch pn (.branch xa xl xr) ts)))) z216 z222 := e1026
                    rw [i0] at e1026
                    have i1026 : tt_i (tt_p [] (.branch xa xl (.branch pn xr ts))) = L0 := (by rw [← i0]; simp [tt_i_p, tt_p, tt_i])
                    have F1026 := kx_Fr.tr F0 e1026
                    obtain ⟨⟨f1026_xa, f1026_xl, ⟨f1026_pn, f1026_xr, f1026_ts⟩⟩, fK1026⟩ := (tt_H_p [] (.branch xa xl (.branch pn xr ts))).mp h1026.2.1
                    refine ri_aload_n C dJ19_fixAfterInsertion_225 rfl ?_
                    refine ri_callS C km_J19_parentOf q1116 dJ19_fixAfterInsertion_226 (mt_J19_parentOfR htr (y := (some xa)) f1026_pn) rfl rfl ⟨⟨(Nat.le_of_ble_eq_true rfl), (Nat.le_of_ble_eq_true rfl)⟩, (Nat.le_of_ble_eq_true rfl), (Nat.le_of_ble_eq_true rfl), (Nat.le_of_ble_eq_true rfl)⟩ (fun v226 z226 q226 => ?_) (fun _ _ _ h => h.elim)
                    obtain ⟨rfl, rfl⟩ := q226
                    refine ri_iconst C dJ19_fixAfterInsertion_229 kc_i1 ?_
                    refine ri_callS C km_J19_setColor q1128 dJ19_fixAfterInsertion_230 (mt_J19_setColorT htr h1026 (an := xa) (by simp [tt_i_p, tt_p, tt_i]) (Or.inr rfl)) rfl rfl ⟨⟨(Nat.le_of_ble_eq_true rfl), (Nat.le_of_ble_eq_true rfl)⟩, (Nat.le_of_ble_eq_true rfl), (Nat.le_of_ble_eq_true rfl), (Nat.le_of_ble_eq_true rfl)⟩ (fun v230 z230 q230 => ?_) (fun _ _ _ h => h.elim)
                    obtain ⟨rfl, h1027, e1027⟩ := q230
                    rw [i1026] at e1027
                    have i1027 := i1026
                    have F1027 := kx_Fr.tr F1026 e1027
                    obtain ⟨⟨f1027_xa, f1027_xl, ⟨f1027_pn, f1027_xr, f1027_ts⟩⟩, fK1027⟩ := (tt_H_p [] (.branch xa xl (.branch pn xr ts))).mp h1027.2.1
                    refine ri_aload_n C dJ19_fixAfterInsertion_233 rfl ?_
                    refine ri_callS C km_J19_parentOf q1116 dJ19_fixAfterInsertion_234 (mt_J19_parentOfR htr (y := (some xa)) f1027_pn) rfl rfl ⟨⟨(Nat.le_of_ble_eq_true rfl), (Nat.le_of_ble_eq_true rfl)⟩, (Nat.le_of_ble_eq_true rfl), (Nat.le_of_ble_eq_true rfl), (Nat.le_of_ble_eq_true rfl)⟩ (fun v234 z234 q234 => ?_) (fun _ _ _ h => h.elim)
                    obtain ⟨rfl, rfl⟩ := q234
                    refine ri_callS C km_J19_parentOf q1116 dJ19_fixAfterInsertion_237 (mt_J19_parentOfR htr (y := none) f1027_xa) rfl rfl ⟨⟨(Nat.le_of_ble_eq_true rfl), (Nat.le_of_ble_eq_true rfl)⟩, (Nat.le_of_ble_eq_true rfl), (Nat.le_of_ble_eq_true rfl), (Nat.le_of_ble_eq_true rfl)⟩ (fun v237 z237 q237 => ?_) (fun _ _ _ h => h.elim)
                    obtain ⟨rfl, rfl⟩ := q237
                    refine ri_iconst C dJ19_fixAfterInsertion_240 kc_i0 ?_
                    refine ri_callS C km_J19_setColor q1128 dJ19_fixAfterInsertion_241 (mt_J19_setColorN htr) rfl rfl ⟨⟨(Nat.le_of_ble_eq_true rfl), (Nat.le_of_ble_eq_true rfl)⟩, (Nat.le_of_ble_eq_true rfl), (Nat.le_of_ble_eq_true rfl), (Nat.le_of_ble_eq_true rfl)⟩ (fun v241 z241 q241 => ?_) (fun _ _ _ h => h.elim)
                    obtain ⟨rfl, rfl⟩ := q241
                    refine ri_aload_n C dJ19_fixAfterInsertion_244 rfl ?_
                    refine ri_aload_n C dJ19_fixAfterInsertion_245 rfl ?_
                    refine ri_callS C km_J19_parentOf q1116 dJ19_fixAfterInsertion_246 (mt_J19_parentOfR htr (y := (some xa)) f1027_pn) rfl rfl ⟨⟨(Nat.le_of_ble_eq_true rfl), (Nat.le_of_ble_eq_true rfl)⟩, (Nat.le_of_ble_eq_true rfl), (Nat.le_of_ble_eq_true rfl), (Nat.le_of_ble_eq_true rfl)⟩ (fun v246 z246 q246 => ?_) (fun _ _ _ h => h.elim)
                    obtain ⟨rfl, rfl⟩ := q246
                    refine ri_callS C km_J19_parentOf q1116 dJ19_fixAfterInsertion_249 (mt_J19_parentOfR htr (y := none) f1027_xa) rfl rfl ⟨⟨(Nat.le_of_ble_eq_true rfl), (Nat.le_of_ble_eq_true rfl)⟩, (Nat.le_of_ble_eq_true rfl), (Nat.le_of_ble_eq_true rfl), (Nat.le_of_ble_eq_true rfl)⟩ (fun v249 z249 q249 => ?_) (fun _ _ _ h => h.elim)
                    obtain ⟨rfl, rfl⟩ := q249
                    refine ri_callV C km_J19_rotateLeft q1131 qs9 dJ19_fixAfterInsertion_252 (mt_J19_rotateLeftN htr) rfl rfl (kx_rcN C h1027.1 rfl) ⟨⟨(Nat.le_of_ble_eq_true rfl), (Nat.le_of_ble_eq_true rfl)⟩, (Nat.le_of_ble_eq_true rfl), (Nat.le_of_ble_eq_true rfl), (Nat.le_of_ble_eq_true rfl)⟩ (fun v252 z252 q252 => ?_) (fun _ _ _ h => h.elim)
                    obtain ⟨rfl, rfl⟩ := q252
                    refine ri_goto C 5 dJ19_fixAfterInsertion_255 rfl ?_
                    refine ri_lv2 (ih (i + 1) ((false, xa, xl) :: []) pn xr ts _ _ (by omega) (by omega) ⟨h1027, i1027, F1027, ?_⟩) ⟨rfl, rfl, trivial⟩
                    first
                      | exact Or.inl (by simp only [List.length_cons, List.length_nil] at hln ⊢; omega)
                      | exact Or.inr ⟨by simp only [List.length_cons, List.length_nil] at hln; omega, fun q hq => by cases hq; exact if_pos rfl⟩
                · exact absurd h166 (by decide)
              · exact absurd h41 (by intro q; cases q)
        · have h0 : tm_H τ ct mp (tt_p Bx (.branch gn us (.branch pn (.branch xa xl xr) ts))) K V D1 vals sz md := hh1
          have i0 : tt_i (tt_p Bx (.branch gn us (.branch pn (.branch xa xl xr) ts))) = L0 := hh2
          have F0 := hh3
          obtain ⟨⟨f0_gn, f0_us, ⟨f0_pn, ⟨f0_xa, f0_xl, f0_xr⟩, f0_ts⟩⟩, fK0⟩ := (tt_H_p Bx (.branch gn us (.branch pn (.branch xa xl xr) ts))).mp h0.2.1
          refine ri_aload_n C dJ19_fixAfterInsertion_5 rfl ?_
          refine ri_ifnull C dJ19_fixAfterInsertion_6 ?_
          refine ri_aload_n C dJ19_fixAfterInsertion_9 rfl ?_
          refine ri_aload_n C dJ19_fixAfterInsertion_10 rfl ?_
          refine ri_getf C dJ19_fixAfterInsertion_11 fr_q577_18 h0.1 (by rfl) ?_
          refine ri_acmp_eqQ (rx := (some xa)) (ry := (tt_r (tt_p Bx (.branch gn us (.branch pn (.branch xa xl xr) ts))))) C 258 dJ19_fixAfterInsertion_14 rfl (fun h14 => ?_) (fun h14 => ?_)
          · obtain ⟨rn9, rl9, rr9, hr9⟩ : ∃ rn rl rr, (tt_p Bx (.branch gn us (.branch pn (.branch xa xl xr) ts))) = .branch rn rl rr := tt_rt Bx
            have hc9 : tm_M τ ct K V D1 rn9 (tt_r rl9) (tt_r rr9) none := (by have g9 := h0.2.1; rw [hr9] at g9; exact g9.1)
            refine ri_aload_n C dJ19_fixAfterInsertion_258 rfl ?_
            refine ri_getf C dJ19_fixAfterInsertion_259 fr_q577_18 h0.1 (by rfl) ?_
            rw [hr9]
            refine ri_iconst C dJ19_fixAfterInsertion_262 kc_i1 ?_
            refine ri_putf C dJ19_fixAfterInsertion_263 fd_q1091_19 (fun h => nomatch h) hc9 (Nat.le_of_ble_eq_true rfl) (by rfl) (by rfl) (by dsimp only [List.set] <;> rfl) (fun s263 e263 => ?_)
            exact ri_vret C hQ dJ19_fixAfterInsertion_266 (Nat.le_of_ble_eq_true rfl) (Nat.le_of_ble_eq_true rfl) ⟨rfl, _, _, tm_set_c h0 hc9 e263 (Or.inr rfl), i0, kx_Fr.up2 F0 e263 (tm_T_e (by rw [← i0, hr9]; simp [tt_i]))⟩
          · refine ri_aload_n C dJ19_fixAfterInsertion_17 rfl ?_
            refine ri_getf C dJ19_fixAfterInsertion_18 fr_q1089_19 f0_xa (by rfl) ?_
            refine ri_getf C dJ19_fixAfterInsertion_21 fr_q1091_19 f0_pn (by rfl) ?_
            refine ri_if_ne C 258 dJ19_fixAfterInsertion_24 rfl (fun h24 => ?_) (fun h24 => ?_)
            · obtain ⟨rn9, rl9, rr9, hr9⟩ : ∃ rn rl rr, (tt_p Bx (.branch gn us (.branch pn (.branch xa xl xr) ts))) = .branch rn rl rr := tt_rt Bx
              have hc9 : tm_M τ ct K V D1 rn9 (tt_r rl9) (tt_r rr9) none := (by have g9 := h0.2.1; rw [hr9] at g9; exact g9.1)
              refine ri_aload_n C dJ19_fixAfterInsertion_258 rfl ?_
              refine ri_getf C dJ19_fixAfterInsertion_259 fr_q577_18 h0.1 (by rfl) ?_
              rw [hr9]
              refine ri_iconst C dJ19_fixAfterInsertion_262 kc_i1 ?_
              refine ri_putf C dJ19_fixAfterInsertion_263 fd_q1091_19 (fun h => nomatch h) hc9 (Nat.le_of_ble_eq_true rfl) (by rfl) (by rfl) (by dsimp only [List.set] <;> rfl) (fun s263 e263 => ?_)
              exact ri_vret C hQ dJ19_fixAfterInsertion_266 (Nat.le_of_ble_eq_true rfl) (Nat.le_of_ble_eq_true rfl) ⟨rfl, _, _, tm_set_c h0 hc9 e263 (Or.inr rfl), i0, kx_Fr.up2 F0 e263 (tm_T_e (by rw [← i0, hr9]; simp [tt_i]))⟩
            · have hln := hms.resolve_right (fun q => absurd ((q.2 pn rfl).symm.trans h24) (by decide))
              refine ri_aload_n C dJ19_fixAfterInsertion_27 rfl ?_
              refine ri_callS C km_J19_parentOf q1116 dJ19_fixAfterInsertion_28 (mt_J19_parentOfR htr (y := (some pn)) f0_xa) rfl rfl ⟨⟨(Nat.le_of_ble_eq_true rfl), (Nat.le_of_ble_eq_true rfl)⟩, (Nat.le_of_ble_eq_true rfl), (Nat.le_of_ble_eq_true rfl), (Nat.le_of_ble_eq_true rfl)⟩ (fun v28 z28 q28 => ?_) (fun _ _ _ h => h.elim)
              obtain ⟨rfl, rfl⟩ := q28
              refine ri_aload_n C dJ19_fixAfterInsertion_31 rfl ?_
              refine ri_callS C km_J19_parentOf q1116 dJ19_fixAfterInsertion_32 (mt_J19_parentOfR htr (y := (some pn)) f0_xa) rfl rfl ⟨⟨(Nat.le_of_ble_eq_true rfl), (Nat.le_of_ble_eq_true rfl)⟩, (Nat.le_of_ble_eq_true rfl), (Nat.le_of_ble_eq_true rfl), (Nat.le_of_ble_eq_true rfl)⟩ (fun v32 z32 q32 => ?_) (fun _ _ _ h => h.elim)
              obtain ⟨rfl, rfl⟩ := q32
              refine ri_callS C km_J19_parentOf q1116 dJ19_fixAfterInsertion_35 (mt_J19_parentOfR htr (y := (some gn)) f0_pn) rfl rfl ⟨⟨(Nat.le_of_ble_eq_true rfl), (Nat.le_of_ble_eq_true rfl)⟩, (Nat.le_of_ble_eq_true rfl), (Nat.le_of_ble_eq_true rfl), (Nat.le_of_ble_eq_true rfl)⟩ (fun v35 z35 q35 => ?_) (fun _ _ _ h => h.elim)
              obtain ⟨rfl, rfl⟩ := q35
              refine ri_callS C km_J19_leftOf q1119 dJ19_fixAfterInsertion_38 (mt_J19_leftOfR htr (y := (tt_r us)) f0_gn) rfl rfl ⟨⟨(Nat.le_of_ble_eq_true rfl), (Nat.le_of_ble_eq_true rfl)⟩, (Nat.le_of_ble_eq_true rfl), (Nat.le_of_ble_eq_true rfl), (Nat.le_of_ble_eq_true rfl)⟩ (fun v38 z38 q38 => ?_) (fun _ _ _ h => h.elim)
              obtain ⟨rfl, rfl⟩ := q38
              refine ri_acmp_neQ (rx := (some pn)) (ry := (tt_r us)) C 151 dJ19_fixAfterInsertion_41 rfl (fun h41 => ?_) (fun h41 => ?_)
              · refine ri_aload_n C dJ19_fixAfterInsertion_151 rfl ?_
                refine ri_callS C km_J19_parentOf q1116 dJ19_fixAfterInsertion_152 (mt_J19_parentOfR htr (y := (some pn)) f0_xa) rfl rfl ⟨⟨(Nat.le_of_ble_eq_true rfl), (Nat.le_of_ble_eq_true rfl)⟩, (Nat.le_of_ble_eq_true rfl), (Nat.le_of_ble_eq_true rfl), (Nat.le_of_ble_eq_true rfl)⟩ (fun v152 z152 q152 => ?_) (fun _ _ _ h => h.elim)
                obtain ⟨rfl, rfl⟩ := q152
                refine ri_callS C km_J19_parentOf q1116 dJ19_fixAfterInsertion_155 (mt_J19_parentOfR htr (y := (some gn)) f0_pn) rfl rfl ⟨⟨(Nat.le_of_ble_eq_true rfl), (Nat.le_of_ble_eq_true rfl)⟩, (Nat.le_of_ble_eq_true rfl), (Nat.le_of_ble_eq_true rfl), (Nat.le_of_ble_eq_true rfl)⟩ (fun v155 z155 q155 => ?_) (fun _ _ _ h => h.elim)
                obtain ⟨rfl, rfl⟩ := q155
                refine ri_callS C km_J19_leftOf q1119 dJ19_fixAfterInsertion_158 (mt_J19_leftOfR htr (y := (tt_r us)) f0_gn) rfl rfl ⟨⟨(Nat.le_of_ble_eq_true rfl), (Nat.le_of_ble_eq_true rfl)⟩, (Nat.le_of_ble_eq_true rfl), (Nat.le_of_ble_eq_true rfl), (Nat.le_of_ble_eq_true rfl)⟩ (fun v158 z158 q158 => ?_) (fun _ _ _ h => h.elim)
                obtain ⟨rfl, rfl⟩ := q158
                refine ri_astore_nQ (x := (tt_r us)) C dJ19_fixAfterInsertion_161 rfl (by decide) ?_
                refine ri_aload_nQ (x := (tt_r us)) C dJ19_fixAfterInsertion_162 rfl ?_
                rcases us with ⟨_⟩ | ⟨usn, usl, usr⟩
                · have h1028 : tm_H z158 ct mp (tt_p Bx (.branch gn tt_n (.branch pn (.branch xa xl xr) ts))) K V D1 vals sz md := h0
                  have i1028 : tt_i (tt_p Bx (.branch gn tt_n (.branch pn (.branch xa xl xr) ts))) = L0 := i0
                  have F1028 := F0
                  obtain ⟨⟨f1028_gn, -, ⟨f1028_pn, ⟨f1028_xa, f1028_xl, f1028_xr⟩, f1028_ts⟩⟩, fK1028⟩ := (tt_H_p Bx (.branch gn tt_n (.branch pn (.branch xa xl xr) ts))).mp h1028.2.1
                  refine ri_callS C km_J19_colorOf q1125 dJ19_fixAfterInsertion_163 (mt_J19_colorOfN htr) rfl rfl ⟨⟨(Nat.le_of_ble_eq_true rfl), (Nat.le_of_ble_eq_true rfl)⟩, (Nat.le_of_ble_eq_true rfl), (Nat.le_of_ble_eq_true rfl), (Nat.le_of_ble_eq_true rfl)⟩ (fun v163 z163 q163 => ?_) (fun _ _ _ h => h.elim)
                  obtain ⟨rfl, rfl⟩ := q163
                  refine ri_if_ne C 204 dJ19_fixAfterInsertion_166 rfl (fun h166 => ?_) (fun h166 => ?_)
                  · refine ri_aload_n C dJ19_fixAfterInsertion_204 rfl ?_
                    refine ri_aload_n C dJ19_fixAfterInsertion_205 rfl ?_
                    refine ri_callS C km_J19_parentOf q1116 dJ19_fixAfterInsertion_206 (mt_J19_parentOfR htr (y := (some pn)) f1028_xa) rfl rfl ⟨⟨(Nat.le_of_ble_eq_true rfl), (Nat.le_of_ble_eq_true rfl)⟩, (Nat.le_of_ble_eq_true rfl), (Nat.le_of_ble_eq_true rfl), (Nat.le_of_ble_eq_true rfl)⟩ (fun v206 z206 q206 => ?_) (fun _ _ _ h => h.elim)
                    obtain ⟨rfl, rfl⟩ := q206
                    refine ri_callS C km_J19_leftOf q1119 dJ19_fixAfterInsertion_209 (mt_J19_leftOfR htr (y := (some xa)) f1028_pn) rfl rfl ⟨⟨(Nat.le_of_ble_eq_true rfl), (Nat.le_of_ble_eq_true rfl)⟩, (Nat.le_of_ble_eq_true rfl), (Nat.le_of_ble_eq_true rfl), (Nat.le_of_ble_eq_true rfl)⟩ (fun v209 z209 q209 => ?_) (fun _ _ _ h => h.elim)
                    obtain ⟨rfl, rfl⟩ := q209
                    refine ri_acmp_neQ (rx := (some xa)) (ry := (some xa)) C 225 dJ19_fixAfterInsertion_212 rfl (fun h212 => ?_) (fun h212 => ?_)
                    · exact absurd rfl h212
                    · refine ri_aload_n C dJ19_fixAfterInsertion_215 rfl ?_
                      refine ri_callS C km_J19_parentOf q1116 dJ19_fixAfterInsertion_216 (mt_J19_parentOfR htr (y := (some pn)) f1028_xa) rfl rfl ⟨⟨(Nat.le_of_ble_eq_true rfl), (Nat.le_of_ble_eq_true rfl)⟩, (Nat.le_of_ble_eq_true rfl), (Nat.le_of_ble_eq_true rfl), (Nat.le_of_ble_eq_true rfl)⟩ (fun v216 z216 q216 => ?_) (fun _ _ _ h => h.elim)
                      obtain ⟨rfl, rfl⟩ := q216
                      refine ri_astore_n (x := pn) C dJ19_fixAfterInsertion_219 rfl (by decide) ?_
                      refine ri_aload_n C dJ19_fixAfterInsertion_220 rfl ?_
                      refine ri_aload_n C dJ19_fixAfterInsertion_221 rfl ?_
                      refine ri_callV C km_J19_rotateRight q1135 qs10 dJ19_fixAfterInsertion_222 (mt_J19_rotateRight htr (Bx := ((false, gn, tt_n) :: Bx)) (pn := pn) (rn := xa) (ta := ts) (tb := xr) (td := xl) h1028) rfl rfl (kx_rcN C h1028.1 rfl) ⟨⟨(Nat.le_of_ble_eq_true rfl), (Nat.le_of_ble_eq_true rfl)⟩, (Nat.le_of_ble_eq_true rfl), (Nat.le_of_ble_eq_true rfl), (Nat.le_of_ble_eq_true rfl)⟩ (fun v222 z222 q222 => ?_) (fun _ _ _ h => h.elim)
                      obtain ⟨rfl, H1029, e1029⟩ := q222
                      have h1029 : tm_H z222 ct mp (tt_p Bx (.branch gn tt_n (.branch xa xl (.branch pn xr ts)))) K V D1 vals sz md := H1029
                      have e1029 : kx_Fr (tm_T ct (tt_i (tt_p Bx (.branch gn tt_n (.branch pn (.branch xa xl xr) ts))))) z216 z222 := e1029
                      rw [i1028] at e1029
                      have i1029 : tt_i (tt_p Bx (.branch gn tt_n (.branch xa xl (.branch pn xr ts)))) = L0 := (by rw [← i1028]; simp [tt_i_p, tt_p, tt_i])
                      have F1029 := kx_Fr.tr F1028 e1029
                      obtain ⟨⟨f1029_gn, -, ⟨f1029_xa, f1029_xl, ⟨f1029_pn, f1029_xr, f1029_ts⟩⟩⟩, fK1029⟩ := (tt_H_p Bx (.branch gn tt_n (.branch xa xl (.branch pn xr ts)))).mp h1029.2.1
                      refine ri_aload_n C dJ19_fixAfterInsertion_225 rfl ?_
                      refine ri_callS C km_J19_parentOf q1116 dJ19_fixAfterInsertion_226 (mt_J19_parentOfR htr (y := (some xa)) f1029_pn) rfl rfl ⟨⟨(Nat.le_of_ble_eq_true rfl), (Nat.le_of_ble_eq_true rfl)⟩, (Nat.le_of_ble_eq_true rfl), (Nat.le_of_ble_eq_true rfl), (Nat.le_of_ble_eq_true rfl)⟩ (fun v226 z226 q226 => ?_) (fun _ _ _ h => h.elim)
                      obtain ⟨rfl, rfl⟩ := q226
                      refine ri_iconst C dJ19_fixAfterInsertion_229 kc_i1 ?_
                      refine ri_callS C km_J19_setColor q1128 dJ19_fixAfterInsertion_230 (mt_J19_setColorT htr h1029 (an := xa) (by simp [tt_i_p, tt_p, tt_i]) (Or.inr rfl)) rfl rfl ⟨⟨(Nat.le_of_ble_eq_true rfl), (Nat.le_of_ble_eq_true rfl)⟩, (Nat.le_of_ble_eq_true rfl), (Nat.le_of_ble_eq_true rfl), (Nat.le_of_ble_eq_true rfl)⟩ (fun v230 z230 q230 => ?_) (fun _ _ _ h => h.elim)
                      obtain ⟨rfl, h1030, e1030⟩ := q230
                      rw [i1029] at e1030
                      have i1030 := i1029
                      have F1030 := kx_Fr.tr F1029 e1030
                      obtain ⟨⟨f1030_gn, -, ⟨f1030_xa, f1030_xl, ⟨f1030_pn, f1030_xr, f1030_ts⟩⟩⟩, fK1030⟩ := (tt_H_p Bx (.branch gn tt_n (.branch xa xl (.branch pn xr ts)))).mp h1030.2.1
                      refine ri_aload_n C dJ19_fixAfterInsertion_233 rfl ?_
                      refine ri_callS C km_J19_parentOf q1116 dJ19_fixAfterInsertion_234 (mt_J19_parentOfR htr (y := (some xa)) f1030_pn) rfl rfl ⟨⟨(Nat.le_of_ble_eq_true rfl), (Nat.le_of_ble_eq_true rfl)⟩, (Nat.le_of_ble_eq_true rfl), (Nat.le_of_ble_eq_true rfl), (Nat.le_of_ble_eq_true rfl)⟩ (fun v234 z234 q234 => ?_) (fun _ _ _ h => h.elim)
                      obtain ⟨rfl, rfl⟩ := q234
                      refine ri_callS C km_J19_parentOf q1116 dJ19_fixAfterInsertion_237 (mt_J19_parentOfR htr (y := (some gn)) f1030_xa) rfl rfl ⟨⟨(Nat.le_of_ble_eq_true rfl), (Nat.le_of_ble_eq_true rfl)⟩, (Nat.le_of_ble_eq_true rfl), (Nat.le_of_ble_eq_true rfl), (Nat.le_of_ble_eq_true rfl)⟩ (fun v237 z237 q237 => ?_) (fun _ _ _ h => h.elim)
                      obtain ⟨rfl, rfl⟩ := q237
                      refine ri_iconst C dJ19_fixAfterInsertion_240 kc_i0 ?_
                      refine ri_callS C km_J19_setColor q1128 dJ19_fixAfterInsertion_241 (mt_J19_setColorT htr h1030 (an := gn) (by simp [tt_i_p, tt_p, tt_i]) (Or.inl rfl)) rfl rfl ⟨⟨(Nat.le_of_ble_eq_true rfl), (Nat.le_of_ble_eq_true rfl)⟩, (Nat.le_of_ble_eq_true rfl), (Nat.le_of_ble_eq_true rfl), (Nat.le_of_ble_eq_true rfl)⟩ (fun v241 z241 q241 => ?_) (fun _ _ _ h => h.elim)
                      obtain ⟨rfl, h1031, e1031⟩ := q241
                      rw [i1030] at e1031
                      have i1031 := i1030
                      have F1031 := kx_Fr.tr F1030 e1031
                      obtain ⟨⟨f1031_gn, -, ⟨f1031_xa, f1031_xl, ⟨f1031_pn, f1031_xr, f1031_ts⟩⟩⟩, fK1031⟩ := (tt_H_p Bx (.branch gn tt_n (.branch xa xl (.branch pn xr ts)))).mp h1031.2.1
                      refine ri_aload_n C dJ19_fixAfterInsertion_244 rfl ?_
                      refine ri_aload_n C dJ19_fixAfterInsertion_245 rfl ?_
                      refine ri_callS C km_J19_parentOf q1116 dJ19_fixAfterInsertion_246 (mt_J19_parentOfR htr (y := (some xa)) f1031_pn) rfl rfl ⟨⟨(Nat.le_of_ble_eq_true rfl), (Nat.le_of_ble_eq_true rfl)⟩, (Nat.le_of_ble_eq_true rfl), (Nat.le_of_ble_eq_true rfl), (Nat.le_of_ble_eq_true rfl)⟩ (fun v246 z246 q246 => ?_) (fun _ _ _ h => h.elim)
                      obtain ⟨rfl, rfl⟩ := q246
                      refine ri_callS C km_J19_parentOf q1116 dJ19_fixAfterInsertion_249 (mt_J19_parentOfR htr (y := (some gn)) f1031_xa) rfl rfl ⟨⟨(Nat.le_of_ble_eq_true rfl), (Nat.le_of_ble_eq_true rfl)⟩, (Nat.le_of_ble_eq_true rfl), (Nat.le_of_ble_eq_true rfl), (Nat.le_of_ble_eq_true rfl)⟩ (fun v249 z249 q249 => ?_) (fun _ _ _ h => h.elim)
                      obtain ⟨rfl, rfl⟩ := q249
                      refine ri_callV C km_J19_rotateLeft q1131 qs9 dJ19_fixAfterInsertion_252 (mt_J19_rotateLeft htr (Bx := (Bx)) (pn := gn) (rn := xa) (ta := tt_n) (tb := xl) (td := (.branch pn xr ts)) h1031) rfl rfl (kx_rcN C h1031.1 rfl) ⟨⟨(Nat.le_of_ble_eq_true rfl), (Nat.le_of_ble_eq_true rfl)⟩, (Nat.le_of_ble_eq_true rfl), (Nat.le_of_ble_eq_true rfl), (Nat.le_of_ble_eq_true rfl)⟩ (fun v252 z252 q252 => ?_) (fun _ _ _ h => h.elim)
                      obtain ⟨rfl, H1032, e1032⟩ := q252
                      have h1032 : tm_H z252 ct mp (tt_p Bx (.branch xa (.branch gn tt_n xl) (.branch pn xr ts))) K V (tm_c (tm_c D1 xa (nI 1)) gn (nI 0)) vals sz md := H1032
                      have e1032 : kx_Fr (tm_T ct (tt_i (tt_p Bx (.branch gn tt_n (.branch xa xl (.branch pn xr ts)))))) z249 z252 := e1032
                      rw [i1031] at e1032
                      have i1032 : tt_i (tt_p Bx (.branch xa (.branch gn tt_n xl) (.branch pn xr ts))) = L0 := (by rw [← i1031]; simp [tt_i_p, tt_p, tt_i])
                      have F1032 := kx_Fr.tr F1031 e1032
                      obtain ⟨⟨f1032_xa, ⟨f1032_gn, -, f1032_xl⟩, ⟨f1032_pn, f1032_xr, f1032_ts⟩⟩, fK1032⟩ := (tt_H_p Bx (.branch xa (.branch gn tt_n xl) (.branch pn xr ts))).mp h1032.2.1
                      refine ri_goto C 5 dJ19_fixAfterInsertion_255 rfl ?_
                      refine ri_lv2 (ih (i + 1) ((false, xa, (.branch gn tt_n xl)) :: Bx) pn xr ts _ _ (by omega) (by omega) ⟨h1032, i1032, F1032, ?_⟩) ⟨rfl, rfl, trivial⟩
                      first
                        | exact Or.inl (by simp only [List.length_cons, List.length_nil] at hln ⊢; omega)
                        | exact Or.inr ⟨by simp only [List.length_cons, List.length_nil] at hln; omega, fun q hq => by cases hq; exact if_pos rfl⟩
                  · exact absurd h166 (by decide)
                · have h1033 : tm_H z158 ct mp (tt_p Bx (.branch gn (.branch usn usl usr) (.branch pn (.branch xa xl xr) ts))) K V D1 vals sz md := h0
                  have i1033 : tt_i (tt_p Bx (.branch gn (.branch usn usl usr) (.branch pn (.branch xa xl xr) ts))) = L0 := i0
                  have F1033 := F0
                  have nd1033 := h1033.2.2.1
                  obtain ⟨⟨f1033_gn, ⟨f1033_usn, f1033_usl, f1033_usr⟩, ⟨f1033_pn, ⟨f1033_xa, f1033_xl, f1033_xr⟩, f1033_ts⟩⟩, fK1033⟩ := (tt_H_p Bx (.branch gn (.branch usn usl usr) (.branch pn (.branch xa xl xr) ts))).mp h1033.2.1
                  refine ri_callS C km_J19_colorOf q1125 dJ19_fixAfterInsertion_163 (mt_J19_colorOfR htr f1033_usn (h1033.2.2.2 usn)) rfl rfl ⟨⟨(Nat.le_of_ble_eq_true rfl), (Nat.le_of_ble_eq_true rfl)⟩, (Nat.le_of_ble_eq_true rfl), (Nat.le_of_ble_eq_true rfl), (Nat.le_of_ble_eq_true rfl)⟩ (fun v163 z163 q163 => ?_) (fun _ _ _ h => h.elim)
                  obtain ⟨rfl, rfl⟩ := q163
                  refine ri_if_ne C 204 dJ19_fixAfterInsertion_166 rfl (fun h166 => ?_) (fun h166 => ?_)
                  · refine ri_aload_n C dJ19_fixAfterInsertion_204 rfl ?_
                    refine ri_aload_n C dJ19_fixAfterInsertion_205 rfl ?_
                    refine ri_callS C km_J19_parentOf q1116 dJ19_fixAfterInsertion_206 (mt_J19_parentOfR htr (y := (some pn)) f1033_xa) rfl rfl ⟨⟨(Nat.le_of_ble_eq_true rfl), (Nat.le_of_ble_eq_true rfl)⟩, (Nat.le_of_ble_eq_true rfl), (Nat.le_of_ble_eq_true rfl), (Nat.le_of_ble_eq_true rfl)⟩ (fun v206 z206 q206 => ?_) (fun _ _ _ h => h.elim)
                    obtain ⟨rfl, rfl⟩ := q206
                    refine ri_callS C km_J19_leftOf q1119 dJ19_fixAfterInsertion_209 (mt_J19_leftOfR htr (y := (some xa)) f1033_pn) rfl rfl ⟨⟨(Nat.le_of_ble_eq_true rfl), (Nat.le_of_ble_eq_true rfl)⟩, (Nat.le_of_ble_eq_true rfl), (Nat.le_of_ble_eq_true rfl), (Nat.le_of_ble_eq_true rfl)⟩ (fun v209 z209 q209 => ?_) (fun _ _ _ h => h.elim)
                    obtain ⟨rfl, rfl⟩ := q209
                    refine ri_acmp_neQ (rx := (some xa)) (ry := (some xa)) C 225 dJ19_fixAfterInsertion_212 rfl (fun h212 => ?_) (fun h212 => ?_)
                    · exact absurd rfl h212
                    · refine ri_aload_n C dJ19_fixAfterInsertion_215 rfl ?_
                      refine ri_callS C km_J19_parentOf q1116 dJ19_fixAfterInsertion_216 (mt_J19_parentOfR htr (y := (some pn)) f1033_xa) rfl rfl ⟨⟨(Nat.le_of_ble_eq_true rfl), (Nat.le_of_ble_eq_true rfl)⟩, (Nat.le_of_ble_eq_true rfl), (Nat.le_of_ble_eq_true rfl), (Nat.le_of_ble_eq_true rfl)⟩ (fun v216 z216 q216 => ?_) (fun _ _ _ h => h.elim)
                      obtain ⟨rfl, rfl⟩ := q216
                      refine ri_astore_n (x := pn) C dJ19_fixAfterInsertion_219 rfl (by decide) ?_
                      refine ri_aload_n C dJ19_fixAfterInsertion_220 rfl ?_
                      refine ri_aload_n C dJ19_fixAfterInsertion_221 rfl ?_
                      refine ri_callV C km_J19_rotateRight q1135 qs10 dJ19_fixAfterInsertion_222 (mt_J19_rotateRight htr (Bx := ((false, gn, (.branch usn usl usr)) :: Bx)) (pn := pn) (rn := xa) (ta := ts) (tb := xr) (td := xl) h1033) rfl rfl (kx_rcN C h1033.1 rfl) ⟨⟨(Nat.le_of_ble_eq_true rfl), (Nat.le_of_ble_eq_true rfl)⟩, (Nat.le_of_ble_eq_true rfl), (Nat.le_of_ble_eq_true rfl), (Nat.le_of_ble_eq_true rfl)⟩ (fun v222 z222 q222 => ?_) (fun _ _ _ h => h.elim)
                      obtain ⟨rfl, H1034, e1034⟩ := q222
                      have h1034 : tm_H z222 ct mp (tt_p Bx (.branch gn (.branch usn usl usr) (.branch xa xl (.branch pn xr ts)))) K V D1 vals sz md := H1034
                      have e1034 : kx_Fr (tm_T ct (tt_i (tt_p Bx (.branch gn (.branch usn usl usr) (.branch pn (.branch xa xl xr) ts))))) z216 z222 := e1034
                      rw [i1033] at e1034
                      have i1034 : tt_i (tt_p Bx (.branch gn (.branch usn usl usr) (.branch xa xl (.branch pn xr ts)))) = L0 := (by rw [← i1033]; simp [tt_i_p, tt_p, tt_i])
                      have F1034 := kx_Fr.tr F1033 e1034
                      obtain ⟨⟨f1034_gn, ⟨f1034_usn, f1034_usl, f1034_usr⟩, ⟨f1034_xa, f1034_xl, ⟨f1034_pn, f1034_xr, f1034_ts⟩⟩⟩, fK1034⟩ := (tt_H_p Bx (.branch gn (.branch usn usl usr) (.branch xa xl (.branch pn xr ts)))).mp h1034.2.1
                      refine ri_aload_n C dJ19_fixAfterInsertion_225 rfl ?_
                      refine ri_callS C km_J19_parentOf q1116 dJ19_fixAfterInsertion_226 (mt_J19_parentOfR htr (y := (some xa)) f1034_pn) rfl rfl ⟨⟨(Nat.le_of_ble_eq_true rfl), (Nat.le_of_ble_eq_true rfl)⟩, (Nat.le_of_ble_eq_true rfl), (Nat.le_of_ble_eq_true rfl), (Nat.le_of_ble_eq_true rfl)⟩ (fun v226 z226 q226 => ?_) (fun _ _ _ h => h.elim)
                      obtain ⟨rfl, rfl⟩ := q226
                      refine ri_iconst C dJ19_fixAfterInsertion_229 kc_i1 ?_
                      refine ri_callS C km_J19_setColor q1128 dJ19_fixAfterInsertion_230 (mt_J19_setColorT htr h1034 (an := xa) (by simp [tt_i_p, tt_p, tt_i]) (Or.inr rfl)) rfl rfl ⟨⟨(Nat.le_of_ble_eq_true rfl), (Nat.le_of_ble_eq_true rfl)⟩, (Nat.le_of_ble_eq_true rfl), (Nat.le_of_ble_eq_true rfl), (Nat.le_of_ble_eq_true rfl)⟩ (fun v230 z230 q230 => ?_) (fun _ _ _ h => h.elim)
                      obtain ⟨rfl, h1035, e1035⟩ := q230
                      rw [i1034] at e1035
                      have i1035 := i1034
                      have F1035 := kx_Fr.tr F1034 e1035
                      obtain ⟨⟨f1035_gn, ⟨f1035_usn, f1035_usl, f1035_usr⟩, ⟨f1035_xa, f1035_xl, ⟨f1035_pn, f1035_xr, f1035_ts⟩⟩⟩, fK1035⟩ := (tt_H_p Bx (.branch gn (.branch usn usl usr) (.branch xa xl (.branch pn xr ts)))).mp h1035.2.1
                      refine ri_aload_n C dJ19_fixAfterInsertion_233 rfl ?_
                      refine ri_callS C km_J19_parentOf q1116 dJ19_fixAfterInsertion_234 (mt_J19_parentOfR htr (y := (some xa)) f1035_pn) rfl rfl ⟨⟨(Nat.le_of_ble_eq_true rfl), (Nat.le_of_ble_eq_true rfl)⟩, (Nat.le_of_ble_eq_true rfl), (Nat.le_of_ble_eq_true rfl), (Nat.le_of_ble_eq_true rfl)⟩ (fun v234 z234 q234 => ?_) (fun _ _ _ h => h.elim)
                      obtain ⟨rfl, rfl⟩ := q234
                      refine ri_callS C km_J19_parentOf q1116 dJ19_fixAfterInsertion_237 (mt_J19_parentOfR htr (y := (some gn)) f1035_xa) rfl rfl ⟨⟨(Nat.le_of_ble_eq_true rfl), (Nat.le_of_ble_eq_true rfl)⟩, (Nat.le_of_ble_eq_true rfl), (Nat.le_of_ble_eq_true rfl), (Nat.le_of_ble_eq_true rfl)⟩ (fun v237 z237 q237 => ?_) (fun _ _ _ h => h.elim)
                      obtain ⟨rfl, rfl⟩ := q237
                      refine ri_iconst C dJ19_fixAfterInsertion_240 kc_i0 ?_
                      refine ri_callS C km_J19_setColor q1128 dJ19_fixAfterInsertion_241 (mt_J19_setColorT htr h1035 (an := gn) (by simp [tt_i_p, tt_p, tt_i]) (Or.inl rfl)) rfl rfl ⟨⟨(Nat.le_of_ble_eq_true rfl), (Nat.le_of_ble_eq_true rfl)⟩, (Nat.le_of_ble_eq_true rfl), (Nat.le_of_ble_eq_true rfl), (Nat.le_of_ble_eq_true rfl)⟩ (fun v241 z241 q241 => ?_) (fun _ _ _ h => h.elim)
                      obtain ⟨rfl, h1036, e1036⟩ := q241
                      rw [i1035] at e1036
                      have i1036 := i1035
                      have F1036 := kx_Fr.tr F1035 e1036
                      obtain ⟨⟨f1036_gn, ⟨f1036_usn, f1036_usl, f1036_usr⟩, ⟨f1036_xa, f1036_xl, ⟨f1036_pn, f1036_xr, f1036_ts⟩⟩⟩, fK1036⟩ := (tt_H_p Bx (.branch gn (.branch usn usl usr) (.branch xa xl (.branch pn xr ts)))).mp h1036.2.1
                      refine ri_aload_n C dJ19_fixAfterInsertion_244 rfl ?_
                      refine ri_aload_n C dJ19_fixAfterInsertion_245 rfl ?_
                      refine ri_callS C km_J19_parentOf q1116 dJ19_fixAfterInsertion_246 (mt_J19_parentOfR htr (y := (some xa)) f1036_pn) rfl rfl ⟨⟨(Nat.le_of_ble_eq_true rfl), (Nat.le_of_ble_eq_true rfl)⟩, (Nat.le_of_ble_eq_true rfl), (Nat.le_of_ble_eq_true rfl), (Nat.le_of_ble_eq_true rfl)⟩ (fun v246 z246 q246 => ?_) (fun _ _ _ h => h.elim)
                      obtain ⟨rfl, rfl⟩ := q246
                      refine ri_callS C km_J19_parentOf q1116 dJ19_fixAfterInsertion_249 (mt_J19_parentOfR htr (y := (some gn)) f1036_xa) rfl rfl ⟨⟨(Nat.le_of_ble_eq_true rfl), (Nat.le_of_ble_eq_true rfl)⟩, (Nat.le_of_ble_eq_true rfl), (Nat.le_of_ble_eq_true rfl), (Nat.le_of_ble_eq_true rfl)⟩ (fun v249 z249 q249 => ?_) (fun _ _ _ h => h.elim)
                      obtain ⟨rfl, rfl⟩ := q249
                      refine ri_callV C km_J19_rotateLeft q1131 qs9 dJ19_fixAfterInsertion_252 (mt_J19_rotateLeft htr (Bx := (Bx)) (pn := gn) (rn := xa) (ta := (.branch usn usl usr)) (tb := xl) (td := (.branch pn xr ts)) h1036) rfl rfl (kx_rcN C h1036.1 rfl) ⟨⟨(Nat.le_of_ble_eq_true rfl), (Nat.le_of_ble_eq_true rfl)⟩, (Nat.le_of_ble_eq_true rfl), (Nat.le_of_ble_eq_true rfl), (Nat.le_of_ble_eq_true rfl)⟩ (fun v252 z252 q252 => ?_) (fun _ _ _ h => h.elim)
                      obtain ⟨rfl, H1037, e1037⟩ := q252
                      have h1037 : tm_H z252 ct mp (tt_p Bx (.branch xa (.branch gn (.branch usn usl usr) xl) (.branch pn xr ts))) K V (tm_c (tm_c D1 xa (nI 1)) gn (nI 0)) vals sz md := H1037
                      have e1037 : kx_Fr (tm_T ct (tt_i (tt_p Bx (.branch gn (.branch usn usl usr) (.branch xa xl (.branch pn xr ts)))))) z249 z252 := e1037
                      rw [i1036] at e1037
                      have i1037 : tt_i (tt_p Bx (.branch xa (.branch gn (.branch usn usl usr) xl) (.branch pn xr ts))) = L0 := (by rw [← i1036]; simp [tt_i_p, tt_p, tt_i])
                      have F1037 := kx_Fr.tr F1036 e1037
                      obtain ⟨⟨f1037_xa, ⟨f1037_gn, ⟨f1037_usn, f1037_usl, f1037_usr⟩, f1037_xl⟩, ⟨f1037_pn, f1037_xr, f1037_ts⟩⟩, fK1037⟩ := (tt_H_p Bx (.branch xa (.branch gn (.branch usn usl usr) xl) (.branch pn xr ts))).mp h1037.2.1
                      refine ri_goto C 5 dJ19_fixAfterInsertion_255 rfl ?_
                      refine ri_lv2 (ih (i + 1) ((false, xa, (.branch gn (.branch usn usl usr) xl)) :: Bx) pn xr ts _ _ (by omega) (by omega) ⟨h1037, i1037, F1037, ?_⟩) ⟨rfl, rfl, trivial⟩
                      first
                        | exact Or.inl (by simp only [List.length_cons, List.length_nil] at hln ⊢; omega)
                        | exact Or.inr ⟨by simp only [List.length_cons, List.length_nil] at hln; omega, fun q hq => by cases hq; exact if_pos rfl⟩
                  · refine ri_aload_n C dJ19_fixAfterInsertion_169 rfl ?_
                    refine ri_callS C km_J19_parentOf q1116 dJ19_fixAfterInsertion_170 (mt_J19_parentOfR htr (y := (some pn)) f1033_xa) rfl rfl ⟨⟨(Nat.le_of_ble_eq_true rfl), (Nat.le_of_ble_eq_true rfl)⟩, (Nat.le_of_ble_eq_true rfl), (Nat.le_of_ble_eq_true rfl), (Nat.le_of_ble_eq_true rfl)⟩ (fun v170 z170 q170 => ?_) (fun _ _ _ h => h.elim)
                    obtain ⟨rfl, rfl⟩ := q170
                    refine ri_iconst C dJ19_fixAfterInsertion_173 kc_i1 ?_
                    refine ri_callS C km_J19_setColor q1128 dJ19_fixAfterInsertion_174 (mt_J19_setColorT htr h1033 (an := pn) (by simp [tt_i_p, tt_p, tt_i]) (Or.inr rfl)) rfl rfl ⟨⟨(Nat.le_of_ble_eq_true rfl), (Nat.le_of_ble_eq_true rfl)⟩, (Nat.le_of_ble_eq_true rfl), (Nat.le_of_ble_eq_true rfl), (Nat.le_of_ble_eq_true rfl)⟩ (fun v174 z174 q174 => ?_) (fun _ _ _ h => h.elim)
                    obtain ⟨rfl, h1038, e1038⟩ := q174
                    rw [i1033] at e1038
                    have i1038 := i1033
                    have F1038 := kx_Fr.tr F1033 e1038
                    obtain ⟨⟨f1038_gn, ⟨f1038_usn, f1038_usl, f1038_usr⟩, ⟨f1038_pn, ⟨f1038_xa, f1038_xl, f1038_xr⟩, f1038_ts⟩⟩, fK1038⟩ := (tt_H_p Bx (.branch gn (.branch usn usl usr) (.branch pn (.branch xa xl xr) ts))).mp h1038.2.1
                    refine ri_aload_n C dJ19_fixAfterInsertion_177 rfl ?_
                    refine ri_iconst C dJ19_fixAfterInsertion_178 kc_i1 ?_
                    refine ri_callS C km_J19_setColor q1128 dJ19_fixAfterInsertion_179 (mt_J19_setColorT htr h1038 (an := usn) (by simp [tt_i_p, tt_p, tt_i]) (Or.inr rfl)) rfl rfl ⟨⟨(Nat.le_of_ble_eq_true rfl), (Nat.le_of_ble_eq_true rfl)⟩, (Nat.le_of_ble_eq_true rfl), (Nat.le_of_ble_eq_true rfl), (Nat.le_of_ble_eq_true rfl)⟩ (fun v179 z179 q179 => ?_) (fun _ _ _ h => h.elim)
                    obtain ⟨rfl, h1039, e1039⟩ := q179
                    rw [i1038] at e1039
                    have i1039 := i1038
                    have F1039 := kx_Fr.tr F1038 e1039
                    obtain ⟨⟨f1039_gn, ⟨f1039_usn, f1039_usl, f1039_usr⟩, ⟨f1039_pn, ⟨f1039_xa, f1039_xl, f1039_xr⟩, f1039_ts⟩⟩, fK1039⟩ := (tt_H_p Bx (.branch gn (.branch usn usl usr) (.branch pn (.branch xa xl xr) ts))).mp h1039.2.1
                    refine ri_aload_n C dJ19_fixAfterInsertion_182 rfl ?_
                    refine ri_callS C km_J19_parentOf q1116 dJ19_fixAfterInsertion_183 (mt_J19_parentOfR htr (y := (some pn)) f1039_xa) rfl rfl ⟨⟨(Nat.le_of_ble_eq_true rfl), (Nat.le_of_ble_eq_true rfl)⟩, (Nat.le_of_ble_eq_true rfl), (Nat.le_of_ble_eq_true rfl), (Nat.le_of_ble_eq_true rfl)⟩ (fun v183 z183 q183 => ?_) (fun _ _ _ h => h.elim)
                    obtain ⟨rfl, rfl⟩ := q183
                    refine ri_callS C km_J19_parentOf q1116 dJ19_fixAfterInsertion_186 (mt_J19_parentOfR htr (y := (some gn)) f1039_pn) rfl rfl ⟨⟨(Nat.le_of_ble_eq_true rfl), (Nat.le_of_ble_eq_true rfl)⟩, (Nat.le_of_ble_eq_true rfl), (Nat.le_of_ble_eq_true rfl), (Nat.le_of_ble_eq_true rfl)⟩ (fun v186 z186 q186 => ?_) (fun _ _ _ h => h.elim)
                    obtain ⟨rfl, rfl⟩ := q186
                    refine ri_iconst C dJ19_fixAfterInsertion_189 kc_i0 ?_
                    refine ri_callS C km_J19_setColor q1128 dJ19_fixAfterInsertion_190 (mt_J19_setColorT htr h1039 (an := gn) (by simp [tt_i_p, tt_p, tt_i]) (Or.inl rfl)) rfl rfl ⟨⟨(Nat.le_of_ble_eq_true rfl), (Nat.le_of_ble_eq_true rfl)⟩, (Nat.le_of_ble_eq_true rfl), (Nat.le_of_ble_eq_true rfl), (Nat.le_of_ble_eq_true rfl)⟩ (fun v190 z190 q190 => ?_) (fun _ _ _ h => h.elim)
                    obtain ⟨rfl, h1040, e1040⟩ := q190
                    rw [i1039] at e1040
                    have i1040 := i1039
                    have F1040 := kx_Fr.tr F1039 e1040
                    obtain ⟨⟨f1040_gn, ⟨f1040_usn, f1040_usl, f1040_usr⟩, ⟨f1040_pn, ⟨f1040_xa, f1040_xl, f1040_xr⟩, f1040_ts⟩⟩, fK1040⟩ := (tt_H_p Bx (.branch gn (.branch usn usl usr) (.branch pn (.branch xa xl xr) ts))).mp h1040.2.1
                    refine ri_aload_n C dJ19_fixAfterInsertion_193 rfl ?_
                    refine ri_callS C km_J19_parentOf q1116 dJ19_fixAfterInsertion_194 (mt_J19_parentOfR htr (y := (some pn)) f1040_xa) rfl rfl ⟨⟨(Nat.le_of_ble_eq_true rfl), (Nat.le_of_ble_eq_true rfl)⟩, (Nat.le_of_ble_eq_true rfl), (Nat.le_of_ble_eq_true rfl), (Nat.le_of_ble_eq_true rfl)⟩ (fun v194 z194 q194 => ?_) (fun _ _ _ h => h.elim)
                    obtain ⟨rfl, rfl⟩ := q194
                    refine ri_callS C km_J19_parentOf q1116 dJ19_fixAfterInsertion_197 (mt_J19_parentOfR htr (y := (some gn)) f1040_pn) rfl rfl ⟨⟨(Nat.le_of_ble_eq_true rfl), (Nat.le_of_ble_eq_true rfl)⟩, (Nat.le_of_ble_eq_true rfl), (Nat.le_of_ble_eq_true rfl), (Nat.le_of_ble_eq_true rfl)⟩ (fun v197 z197 q197 => ?_) (fun _ _ _ h => h.elim)
                    obtain ⟨rfl, rfl⟩ := q197
                    refine ri_astore_n (x := gn) C dJ19_fixAfterInsertion_200 rfl (by decide) ?_
                    refine ri_goto C 255 dJ19_fixAfterInsertion_201 rfl ?_
                    refine ri_goto C 5 dJ19_fixAfterInsertion_255 rfl ?_
                    refine ri_lv2 (ih (i + 1) (Bx) gn (.branch usn usl usr) (.branch pn (.branch xa xl xr) ts) _ _ (by omega) (by omega) ⟨h1040, i1040, F1040, ?_⟩) ⟨rfl, rfl, trivial⟩
                    first
                      | exact Or.inl (by simp only [List.length_cons, List.length_nil] at hln ⊢; omega)
                      | exact Or.inr ⟨by simp only [List.length_cons, List.length_nil] at hln; omega, fun q hq => by cases hq; exact if_pos rfl⟩
              · exfalso; obtain ⟨A9, C9, hA9⟩ := List.append_of_mem (tt_r_in h41.symm); have nd9 := h0.2.2.1; simp [tt_i_p, tt_p, tt_i, hA9, List.nodup_append] at nd9
        · have h0 : tm_H τ ct mp (tt_p Bx (.branch gn (.branch pn (.branch xa xl xr) ts) us)) K V D1 vals sz md := hh1
          have i0 : tt_i (tt_p Bx (.branch gn (.branch pn (.branch xa xl xr) ts) us)) = L0 := hh2
          have F0 := hh3
          obtain ⟨⟨f0_gn, ⟨f0_pn, ⟨f0_xa, f0_xl, f0_xr⟩, f0_ts⟩, f0_us⟩, fK0⟩ := (tt_H_p Bx (.branch gn (.branch pn (.branch xa xl xr) ts) us)).mp h0.2.1
          refine ri_aload_n C dJ19_fixAfterInsertion_5 rfl ?_
          refine ri_ifnull C dJ19_fixAfterInsertion_6 ?_
          refine ri_aload_n C dJ19_fixAfterInsertion_9 rfl ?_
          refine ri_aload_n C dJ19_fixAfterInsertion_10 rfl ?_
          refine ri_getf C dJ19_fixAfterInsertion_11 fr_q577_18 h0.1 (by rfl) ?_
          refine ri_acmp_eqQ (rx := (some xa)) (ry := (tt_r (tt_p Bx (.branch gn (.branch pn (.branch xa xl xr) ts) us)))) C 258 dJ19_fixAfterInsertion_14 rfl (fun h14 => ?_) (fun h14 => ?_)
          · obtain ⟨rn9, rl9, rr9, hr9⟩ : ∃ rn rl rr, (tt_p Bx (.branch gn (.branch pn (.branch xa xl xr) ts) us)) = .branch rn rl rr := tt_rt Bx
            have hc9 : tm_M τ ct K V D1 rn9 (tt_r rl9) (tt_r rr9) none := (by have g9 := h0.2.1; rw [hr9] at g9; exact g9.1)
            refine ri_aload_n C dJ19_fixAfterInsertion_258 rfl ?_
            refine ri_getf C dJ19_fixAfterInsertion_259 fr_q577_18 h0.1 (by rfl) ?_
            rw [hr9]
            refine ri_iconst C dJ19_fixAfterInsertion_262 kc_i1 ?_
            refine ri_putf C dJ19_fixAfterInsertion_263 fd_q1091_19 (fun h => nomatch h) hc9 (Nat.le_of_ble_eq_true rfl) (by rfl) (by rfl) (by dsimp only [List.set] <;> rfl) (fun s263 e263 => ?_)
            exact ri_vret C hQ dJ19_fixAfterInsertion_266 (Nat.le_of_ble_eq_true rfl) (Nat.le_of_ble_eq_true rfl) ⟨rfl, _, _, tm_set_c h0 hc9 e263 (Or.inr rfl), i0, kx_Fr.up2 F0 e263 (tm_T_e (by rw [← i0, hr9]; simp [tt_i]))⟩
          · refine ri_aload_n C dJ19_fixAfterInsertion_17 rfl ?_
            refine ri_getf C dJ19_fixAfterInsertion_18 fr_q1089_19 f0_xa (by rfl) ?_
            refine ri_getf C dJ19_fixAfterInsertion_21 fr_q1091_19 f0_pn (by rfl) ?_
            refine ri_if_ne C 258 dJ19_fixAfterInsertion_24 rfl (fun h24 => ?_) (fun h24 => ?_)
            · obtain ⟨rn9, rl9, rr9, hr9⟩ : ∃ rn rl rr, (tt_p Bx (.branch gn (.branch pn (.branch xa xl xr) ts) us)) = .branch rn rl rr := tt_rt Bx
              have hc9 : tm_M τ ct K V D1 rn9 (tt_r rl9) (tt_r rr9) none := (by have g9 := h0.2.1; rw [hr9] at g9; exact g9.1)
              refine ri_aload_n C dJ19_fixAfterInsertion_258 rfl ?_
              refine ri_getf C dJ19_fixAfterInsertion_259 fr_q577_18 h0.1 (by rfl) ?_
              rw [hr9]
              refine ri_iconst C dJ19_fixAfterInsertion_262 kc_i1 ?_
              refine ri_putf C dJ19_fixAfterInsertion_263 fd_q1091_19 (fun h => nomatch h) hc9 (Nat.le_of_ble_eq_true rfl) (by rfl) (by rfl) (by dsimp only [List.set] <;> rfl) (fun s263 e263 => ?_)
              exact ri_vret C hQ dJ19_fixAfterInsertion_266 (Nat.le_of_ble_eq_true rfl) (Nat.le_of_ble_eq_true rfl) ⟨rfl, _, _, tm_set_c h0 hc9 e263 (Or.inr rfl), i0, kx_Fr.up2 F0 e263 (tm_T_e (by rw [← i0, hr9]; simp [tt_i]))⟩
            · have hln := hms.resolve_right (fun q => absurd ((q.2 pn rfl).symm.trans h24) (by decide))
              refine ri_aload_n C dJ19_fixAfterInsertion_27 rfl ?_
              refine ri_callS C km_J19_parentOf q1116 dJ19_fixAfterInsertion_28 (mt_J19_parentOfR htr (y := (some pn)) f0_xa) rfl rfl ⟨⟨(Nat.le_of_ble_eq_true rfl), (Nat.le_of_ble_eq_true rfl)⟩, (Nat.le_of_ble_eq_true rfl), (Nat.le_of_ble_eq_true rfl), (Nat.le_of_ble_eq_true rfl)⟩ (fun v28 z28 q28 => ?_) (fun _ _ _ h => h.elim)
              obtain ⟨rfl, rfl⟩ := q28
              refine ri_aload_n C dJ19_fixAfterInsertion_31 rfl ?_
              refine ri_callS C km_J19_parentOf q1116 dJ19_fixAfterInsertion_32 (mt_J19_parentOfR htr (y := (some pn)) f0_xa) rfl rfl ⟨⟨(Nat.le_of_ble_eq_true rfl), (Nat.le_of_ble_eq_true rfl)⟩, (Nat.le_of_ble_eq_true rfl), (Nat.le_of_ble_eq_true rfl), (Nat.le_of_ble_eq_true rfl)⟩ (fun v32 z32 q32 => ?_) (fun _ _ _ h => h.elim)
              obtain ⟨rfl, rfl⟩ := q32
              refine ri_callS C km_J19_parentOf q1116 dJ19_fixAfterInsertion_35 (mt_J19_parentOfR htr (y := (some gn)) f0_pn) rfl rfl ⟨⟨(Nat.le_of_ble_eq_true rfl), (Nat.le_of_ble_eq_true rfl)⟩, (Nat.le_of_ble_eq_true rfl), (Nat.le_of_ble_eq_true rfl), (Nat.le_of_ble_eq_true rfl)⟩ (fun v35 z35 q35 => ?_) (fun _ _ _ h => h.elim)
              obtain ⟨rfl, rfl⟩ := q35
              refine ri_callS C km_J19_leftOf q1119 dJ19_fixAfterInsertion_38 (mt_J19_leftOfR htr (y := (some pn)) f0_gn) rfl rfl ⟨⟨(Nat.le_of_ble_eq_true rfl), (Nat.le_of_ble_eq_true rfl)⟩, (Nat.le_of_ble_eq_true rfl), (Nat.le_of_ble_eq_true rfl), (Nat.le_of_ble_eq_true rfl)⟩ (fun v38 z38 q38 => ?_) (fun _ _ _ h => h.elim)
              obtain ⟨rfl, rfl⟩ := q38
              refine ri_acmp_neQ (rx := (some pn)) (ry := (some pn)) C 151 dJ19_fixAfterInsertion_41 rfl (fun h41 => ?_) (fun h41 => ?_)
              · exact absurd rfl h41
              · refine ri_aload_n C dJ19_fixAfterInsertion_44 rfl ?_
                refine ri_callS C km_J19_parentOf q1116 dJ19_fixAfterInsertion_45 (mt_J19_parentOfR htr (y := (some pn)) f0_xa) rfl rfl ⟨⟨(Nat.le_of_ble_eq_true rfl), (Nat.le_of_ble_eq_true rfl)⟩, (Nat.le_of_ble_eq_true rfl), (Nat.le_of_ble_eq_true rfl), (Nat.le_of_ble_eq_true rfl)⟩ (fun v45 z45 q45 => ?_) (fun _ _ _ h => h.elim)
                obtain ⟨rfl, rfl⟩ := q45
                refine ri_callS C km_J19_parentOf q1116 dJ19_fixAfterInsertion_48 (mt_J19_parentOfR htr (y := (some gn)) f0_pn) rfl rfl ⟨⟨(Nat.le_of_ble_eq_true rfl), (Nat.le_of_ble_eq_true rfl)⟩, (Nat.le_of_ble_eq_true rfl), (Nat.le_of_ble_eq_true rfl), (Nat.le_of_ble_eq_true rfl)⟩ (fun v48 z48 q48 => ?_) (fun _ _ _ h => h.elim)
                obtain ⟨rfl, rfl⟩ := q48
                refine ri_callS C km_J19_rightOf q1122 dJ19_fixAfterInsertion_51 (mt_J19_rightOfR htr (y := (tt_r us)) f0_gn) rfl rfl ⟨⟨(Nat.le_of_ble_eq_true rfl), (Nat.le_of_ble_eq_true rfl)⟩, (Nat.le_of_ble_eq_true rfl), (Nat.le_of_ble_eq_true rfl), (Nat.le_of_ble_eq_true rfl)⟩ (fun v51 z51 q51 => ?_) (fun _ _ _ h => h.elim)
                obtain ⟨rfl, rfl⟩ := q51
                refine ri_astore_nQ (x := (tt_r us)) C dJ19_fixAfterInsertion_54 rfl (by decide) ?_
                refine ri_aload_nQ (x := (tt_r us)) C dJ19_fixAfterInsertion_55 rfl ?_
                rcases us with ⟨_⟩ | ⟨usn, usl, usr⟩
                · have h1041 : tm_H z51 ct mp (tt_p Bx (.branch gn (.branch pn (.branch xa xl xr) ts) tt_n)) K V D1 vals sz md := h0
                  have i1041 : tt_i (tt_p Bx (.branch gn (.branch pn (.branch xa xl xr) ts) tt_n)) = L0 := i0
                  have F1041 := F0
                  obtain ⟨⟨f1041_gn, ⟨f1041_pn, ⟨f1041_xa, f1041_xl, f1041_xr⟩, f1041_ts⟩, -⟩, fK1041⟩ := (tt_H_p Bx (.branch gn (.branch pn (.branch xa xl xr) ts) tt_n)).mp h1041.2.1
                  refine ri_callS C km_J19_colorOf q1125 dJ19_fixAfterInsertion_56 (mt_J19_colorOfN htr) rfl rfl ⟨⟨(Nat.le_of_ble_eq_true rfl), (Nat.le_of_ble_eq_true rfl)⟩, (Nat.le_of_ble_eq_true rfl), (Nat.le_of_ble_eq_true rfl), (Nat.le_of_ble_eq_true rfl)⟩ (fun v56 z56 q56 => ?_) (fun _ _ _ h => h.elim)
                  obtain ⟨rfl, rfl⟩ := q56
                  refine ri_if_ne C 97 dJ19_fixAfterInsertion_59 rfl (fun h59 => ?_) (fun h59 => ?_)
                  · refine ri_aload_n C dJ19_fixAfterInsertion_97 rfl ?_
                    refine ri_aload_n C dJ19_fixAfterInsertion_98 rfl ?_
                    refine ri_callS C km_J19_parentOf q1116 dJ19_fixAfterInsertion_99 (mt_J19_parentOfR htr (y := (some pn)) f1041_xa) rfl rfl ⟨⟨(Nat.le_of_ble_eq_true rfl), (Nat.le_of_ble_eq_true rfl)⟩, (Nat.le_of_ble_eq_true rfl), (Nat.le_of_ble_eq_true rfl), (Nat.le_of_ble_eq_true rfl)⟩ (fun v99 z99 q99 => ?_) (fun _ _ _ h => h.elim)
                    obtain ⟨rfl, rfl⟩ := q99
                    refine ri_callS C km_J19_rightOf q1122 dJ19_fixAfterInsertion_102 (mt_J19_rightOfR htr (y := (tt_r ts)) f1041_pn) rfl rfl ⟨⟨(Nat.le_of_ble_eq_true rfl), (Nat.le_of_ble_eq_true rfl)⟩, (Nat.le_of_ble_eq_true rfl), (Nat.le_of_ble_eq_true rfl), (Nat.le_of_ble_eq_true rfl)⟩ (fun v102 z102 q102 => ?_) (fun _ _ _ h => h.elim)
                    obtain ⟨rfl, rfl⟩ := q102
                    refine ri_acmp_neQ (rx := (some xa)) (ry := (tt_r ts)) C 118 dJ19_fixAfterInsertion_105 rfl (fun h105 => ?_) (fun h105 => ?_)
                    · refine ri_aload_n C dJ19_fixAfterInsertion_118 rfl ?_
                      refine ri_callS C km_J19_parentOf q1116 dJ19_fixAfterInsertion_119 (mt_J19_parentOfR htr (y := (some pn)) f1041_xa) rfl rfl ⟨⟨(Nat.le_of_ble_eq_true rfl), (Nat.le_of_ble_eq_true rfl)⟩, (Nat.le_of_ble_eq_true rfl), (Nat.le_of_ble_eq_true rfl), (Nat.le_of_ble_eq_true rfl)⟩ (fun v119 z119 q119 => ?_) (fun _ _ _ h => h.elim)
                      obtain ⟨rfl, rfl⟩ := q119
                      refine ri_iconst C dJ19_fixAfterInsertion_122 kc_i1 ?_
                      refine ri_callS C km_J19_setColor q1128 dJ19_fixAfterInsertion_123 (mt_J19_setColorT htr h1041 (an := pn) (by simp [tt_i_p, tt_p, tt_i]) (Or.inr rfl)) rfl rfl ⟨⟨(Nat.le_of_ble_eq_true rfl), (Nat.le_of_ble_eq_true rfl)⟩, (Nat.le_of_ble_eq_true rfl), (Nat.le_of_ble_eq_true rfl), (Nat.le_of_ble_eq_true rfl)⟩ (fun v123 z123 q123 => ?_) (fun _ _ _ h => h.elim)
                      obtain ⟨rfl, h1042, e1042⟩ := q123
                      rw [i1041] at e1042
                      have i1042 := i1041
                      have F1042 := kx_Fr.tr F1041 e1042
                      obtain ⟨⟨f1042_gn, ⟨f1042_pn, ⟨f1042_xa, f1042_xl, f1042_xr⟩, f1042_ts⟩, -⟩, fK1042⟩ := (tt_H_p Bx (.branch gn (.branch pn (.branch xa xl xr) ts) tt_n)).mp h1042.2.1
                      refine ri_aload_n C dJ19_fixAfterInsertion_126 rfl ?_
                      refine ri_callS C km_J19_parentOf q1116 dJ19_fixAfterInsertion_127 (mt_J19_parentOfR htr (y := (some pn)) f1042_xa) rfl rfl ⟨⟨(Nat.le_of_ble_eq_true rfl), (Nat.le_of_ble_eq_true rfl)⟩, (Nat.le_of_ble_eq_true rfl), (Nat.le_of_ble_eq_true rfl), (Nat.le_of_ble_eq_true rfl)⟩ (fun v127 z127 q127 => ?_) (fun _ _ _ h => h.elim)
                      obtain ⟨rfl, rfl⟩ := q127
                      refine ri_callS C km_J19_parentOf q1116 dJ19_fixAfterInsertion_130 (mt_J19_parentOfR htr (y := (some gn)) f1042_pn) rfl rfl ⟨⟨(Nat.le_of_ble_eq_true rfl), (Nat.le_of_ble_eq_true rfl)⟩, (Nat.le_of_ble_eq_true rfl), (Nat.le_of_ble_eq_true rfl), (Nat.le_of_ble_eq_true rfl)⟩ (fun v130 z130 q130 => ?_) (fun _ _ _ h => h.elim)
                      obtain ⟨rfl, rfl⟩ := q130
                      refine ri_iconst C dJ19_fixAfterInsertion_133 kc_i0 ?_
                      refine ri_callS C km_J19_setColor q1128 dJ19_fixAfterInsertion_134 (mt_J19_setColorT htr h1042 (an := gn) (by simp [tt_i_p, tt_p, tt_i]) (Or.inl rfl)) rfl rfl ⟨⟨(Nat.le_of_ble_eq_true rfl), (Nat.le_of_ble_eq_true rfl)⟩, (Nat.le_of_ble_eq_true rfl), (Nat.le_of_ble_eq_true rfl), (Nat.le_of_ble_eq_true rfl)⟩ (fun v134 z134 q134 => ?_) (fun _ _ _ h => h.elim)
                      obtain ⟨rfl, h1043, e1043⟩ := q134
                      rw [i1042] at e1043
                      have i1043 := i1042
                      have F1043 := kx_Fr.tr F1042 e1043
                      obtain ⟨⟨f1043_gn, ⟨f1043_pn, ⟨f1043_xa, f1043_xl, f1043_xr⟩, f1043_ts⟩, -⟩, fK1043⟩ := (tt_H_p Bx (.branch gn (.branch pn (.branch xa xl xr) ts) tt_n)).mp h1043.2.1
                      refine ri_aload_n C dJ19_fixAfterInsertion_137 rfl ?_
                      refine ri_aload_n C dJ19_fixAfterInsertion_138 rfl ?_
                      refine ri_callS C km_J19_parentOf q1116 dJ19_fixAfterInsertion_139 (mt_J19_parentOfR htr (y := (some pn)) f1043_xa) rfl rfl ⟨⟨(Nat.le_of_ble_eq_true rfl), (Nat.le_of_ble_eq_true rfl)⟩, (Nat.le_of_ble_eq_true rfl), (Nat.le_of_ble_eq_true rfl), (Nat.le_of_ble_eq_true rfl)⟩ (fun v139 z139 q139 => ?_) (fun _ _ _ h => h.elim)
                      obtain ⟨rfl, rfl⟩ := q139
                      refine ri_callS C km_J19_parentOf q1116 dJ19_fixAfterInsertion_142 (mt_J19_parentOfR htr (y := (some gn)) f1043_pn) rfl rfl ⟨⟨(Nat.le_of_ble_eq_true rfl), (Nat.le_of_ble_eq_true rfl)⟩, (Nat.le_of_ble_eq_true rfl), (Nat.le_of_ble_eq_true rfl), (Nat.le_of_ble_eq_true rfl)⟩ (fun v142 z142 q142 => ?_) (fun _ _ _ h => h.elim)
                      obtain ⟨rfl, rfl⟩ := q142
                      refine ri_callV C km_J19_rotateRight q1135 qs10 dJ19_fixAfterInsertion_145 (mt_J19_rotateRight htr (Bx := (Bx)) (pn := gn) (rn := pn) (ta := tt_n) (tb := ts) (td := (.branch xa xl xr)) h1043) rfl rfl (kx_rcN C h1043.1 rfl) ⟨⟨(Nat.le_of_ble_eq_true rfl), (Nat.le_of_ble_eq_true rfl)⟩, (Nat.le_of_ble_eq_true rfl), (Nat.le_of_ble_eq_true rfl), (Nat.le_of_ble_eq_true rfl)⟩ (fun v145 z145 q145 => ?_) (fun _ _ _ h => h.elim)
                      obtain ⟨rfl, H1044, e1044⟩ := q145
                      have h1044 : tm_H z145 ct mp (tt_p Bx (.branch pn (.branch xa xl xr) (.branch gn ts tt_n))) K V (tm_c (tm_c D1 pn (nI 1)) gn (nI 0)) vals sz md := H1044
                      have e1044 : kx_Fr (tm_T ct (tt_i (tt_p Bx (.branch gn (.branch pn (.branch xa xl xr) ts) tt_n)))) z142 z145 := e1044
                      rw [i1043] at e1044
                      have i1044 : tt_i (tt_p Bx (.branch pn (.branch xa xl xr) (.branch gn ts tt_n))) = L0 := (by rw [← i1043]; simp [tt_i_p, tt_p, tt_i])
                      have F1044 := kx_Fr.tr F1043 e1044
                      obtain ⟨⟨f1044_pn, ⟨f1044_xa, f1044_xl, f1044_xr⟩, ⟨f1044_gn, f1044_ts, -⟩⟩, fK1044⟩ := (tt_H_p Bx (.branch pn (.branch xa xl xr) (.branch gn ts tt_n))).mp h1044.2.1
                      refine ri_goto C 5 dJ19_fixAfterInsertion_148 rfl ?_
                      refine ri_lv2 (ih (i + 1) ((true, pn, (.branch gn ts tt_n)) :: Bx) xa xl xr _ _ (by omega) (by omega) ⟨h1044, i1044, F1044, ?_⟩) ⟨rfl, rfl, trivial⟩
                      first
                        | exact Or.inl (by simp only [List.length_cons, List.length_nil] at hln ⊢; omega)
                        | exact Or.inr ⟨by simp only [List.length_cons, List.length_nil] at hln; omega, fun q hq => by cases hq; exact if_pos rfl⟩
                    · exfalso; obtain ⟨A9, C9, hA9⟩ := List.append_of_mem (tt_r_in h105.symm); have nd9 := h1041.2.2.1; simp [tt_i_p, tt_p, tt_i, hA9, List.nodup_append] at nd9
                  · exact absurd h59 (by decide)
                · have h1045 : tm_H z51 ct mp (tt_p Bx (.branch gn (.branch pn (.branch xa xl xr) ts) (.branch usn usl usr))) K V D1 vals sz md := h0
                  have i1045 : tt_i (tt_p Bx (.branch gn (.branch pn (.branch xa xl xr) ts) (.branch usn usl usr))) = L0 := i0
                  have F1045 := F0
                  have nd1045 := h1045.2.2.1
                  obtain ⟨⟨f1045_gn, ⟨f1045_pn, ⟨f1045_xa, f1045_xl, f1045_xr⟩, f1045_ts⟩, ⟨f1045_usn, f1045_usl, f1045_usr⟩⟩, fK1045⟩ := (tt_H_p Bx (.branch gn (.branch pn (.branch xa xl xr) ts) (.branch usn usl usr))).mp h1045.2.1
                  refine ri_callS C km_J19_colorOf q1125 dJ19_fixAfterInsertion_56 (mt_J19_colorOfR htr f1045_usn (h1045.2.2.2 usn)) rfl rfl ⟨⟨(Nat.le_of_ble_eq_true rfl), (Nat.le_of_ble_eq_true rfl)⟩, (Nat.le_of_ble_eq_true rfl), (Nat.le_of_ble_eq_true rfl), (Nat.le_of_ble_eq_true rfl)⟩ (fun v56 z56 q56 => ?_) (fun _ _ _ h => h.elim)
                  obtain ⟨rfl, rfl⟩ := q56
                  refine ri_if_ne C 97 dJ19_fixAfterInsertion_59 rfl (fun h59 => ?_) (fun h59 => ?_)
                  · refine ri_aload_n C dJ19_fixAfterInsertion_97 rfl ?_
                    refine ri_aload_n C dJ19_fixAfterInsertion_98 rfl ?_
                    refine ri_callS C km_J19_parentOf q1116 dJ19_fixAfterInsertion_99 (mt_J19_parentOfR htr (y := (some pn)) f1045_xa) rfl rfl ⟨⟨(Nat.le_of_ble_eq_true rfl), (Nat.le_of_ble_eq_true rfl)⟩, (Nat.le_of_ble_eq_true rfl), (Nat.le_of_ble_eq_true rfl), (Nat.le_of_ble_eq_true rfl)⟩ (fun v99 z99 q99 => ?_) (fun _ _ _ h => h.elim)
                    obtain ⟨rfl, rfl⟩ := q99
                    refine ri_callS C km_J19_rightOf q1122 dJ19_fixAfterInsertion_102 (mt_J19_rightOfR htr (y := (tt_r ts)) f1045_pn) rfl rfl ⟨⟨(Nat.le_of_ble_eq_true rfl), (Nat.le_of_ble_eq_true rfl)⟩, (Nat.le_of_ble_eq_true rfl), (Nat.le_of_ble_eq_true rfl), (Nat.le_of_ble_eq_true rfl)⟩ (fun v102 z102 q102 => ?_) (fun _ _ _ h => h.elim)
                    obtain ⟨rfl, rfl⟩ := q102
                    refine ri_acmp_neQ (rx := (some xa)) (ry := (tt_r ts)) C 118 dJ19_fixAfterInsertion_105 rfl (fun h105 => ?_) (fun h105 => ?_)
                    · refine ri_aload_n C dJ19_fixAfterInsertion_118 rfl ?_
                      refine ri_callS C km_J19_parentOf q1116 dJ19_fixAfterInsertion_119 (mt_J19_parentOfR htr (y := (some pn)) f1045_xa) rfl rfl ⟨⟨(Nat.le_of_ble_eq_true rfl), (Nat.le_of_ble_eq_true rfl)⟩, (Nat.le_of_ble_eq_true rfl), (Nat.le_of_ble_eq_true rfl), (Nat.le_of_ble_eq_true rfl)⟩ (fun v119 z119 q119 => ?_) (fun _ _ _ h => h.elim)
                      obtain ⟨rfl, rfl⟩ := q119
                      refine ri_iconst C dJ19_fixAfterInsertion_122 kc_i1 ?_
                      refine ri_callS C km_J19_setColor q1128 dJ19_fixAfterInsertion_123 (mt_J19_setColorT htr h1045 (an := pn) (by simp [tt_i_p, tt_p, tt_i]) (Or.inr rfl)) rfl rfl ⟨⟨(Nat.le_of_ble_eq_true rfl), (Nat.le_of_ble_eq_true rfl)⟩, (Nat.le_of_ble_eq_true rfl), (Nat.le_of_ble_eq_true rfl), (Nat.le_of_ble_eq_true rfl)⟩ (fun v123 z123 q123 => ?_) (fun _ _ _ h => h.elim)
                      obtain ⟨rfl, h1046, e1046⟩ := q123
                      rw [i1045] at e1046
                      have i1046 := i1045
                      have F1046 := kx_Fr.tr F1045 e1046
                      obtain ⟨⟨f1046_gn, ⟨f1046_pn, ⟨f1046_xa, f1046_xl, f1046_xr⟩, f1046_ts⟩, ⟨f1046_usn, f1046_usl, f1046_usr⟩⟩, fK1046⟩ := (tt_H_p Bx (.branch gn (.branch pn (.branch xa xl xr) ts) (.branch usn usl usr))).mp h1046.2.1
                      refine ri_aload_n C dJ19_fixAfterInsertion_126 rfl ?_
                      refine ri_callS C km_J19_parentOf q1116 dJ19_fixAfterInsertion_127 (mt_J19_parentOfR htr (y := (some pn)) f1046_xa) rfl rfl ⟨⟨(Nat.le_of_ble_eq_true rfl), (Nat.le_of_ble_eq_true rfl)⟩, (Nat.le_of_ble_eq_true rfl), (Nat.le_of_ble_eq_true rfl), (Nat.le_of_ble_eq_true rfl)⟩ (fun v127 z127 q127 => ?_) (fun _ _ _ h => h.elim)
                      obtain ⟨rfl, rfl⟩ := q127
                      refine ri_callS C km_J19_parentOf q1116 dJ19_fixAfterInsertion_130 (mt_J19_parentOfR htr (y := (some gn)) f1046_pn) rfl rfl ⟨⟨(Nat.le_of_ble_eq_true rfl), (Nat.le_of_ble_eq_true rfl)⟩, (Nat.le_of_ble_eq_true rfl), (Nat.le_of_ble_eq_true rfl), (Nat.le_of_ble_eq_true rfl)⟩ (fun v130 z130 q130 => ?_) (fun _ _ _ h => h.elim)
                      obtain ⟨rfl, rfl⟩ := q130
                      refine ri_iconst C dJ19_fixAfterInsertion_133 kc_i0 ?_
                      refine ri_callS C km_J19_setColor q1128 dJ19_fixAfterInsertion_134 (mt_J19_setColorT htr h1046 (an := gn) (by simp [tt_i_p, tt_p, tt_i]) (Or.inl rfl)) rfl rfl ⟨⟨(Nat.le_of_ble_eq_true rfl), (Nat.le_of_ble_eq_true rfl)⟩, (Nat.le_of_ble_eq_true rfl), (Nat.le_of_ble_eq_true rfl), (Nat.le_of_ble_eq_true rfl)⟩ (fun v134 z134 q134 => ?_) (fun _ _ _ h => h.elim)
                      obtain ⟨rfl, h1047, e1047⟩ := q134
                      rw [i1046] at e1047
                      have i1047 := i1046
                      have F1047 := kx_Fr.tr F1046 e1047
                      obtain ⟨⟨f1047_gn, ⟨f1047_pn, ⟨f1047_xa, f1047_xl, f1047_xr⟩, f1047_ts⟩, ⟨f1047_usn, f1047_usl, f1047_usr⟩⟩, fK1047⟩ := (tt_H_p Bx (.branch gn (.branch pn (.branch xa xl xr) ts) (.branch usn usl usr))).mp h1047.2.1
                      refine ri_aload_n C dJ19_fixAfterInsertion_137 rfl ?_
                      refine ri_aload_n C dJ19_fixAfterInsertion_138 rfl ?_
                      refine ri_callS C km_J19_parentOf q1116 dJ19_fixAfterInsertion_139 (mt_J19_parentOfR htr (y := (some pn)) f1047_xa) rfl rfl ⟨⟨(Nat.le_of_ble_eq_true rfl), (Nat.le_of_ble_eq_true rfl)⟩, (Nat.le_of_ble_eq_true rfl), (Nat.le_of_ble_eq_true rfl), (Nat.le_of_ble_eq_true rfl)⟩ (fun v139 z139 q139 => ?_) (fun _ _ _ h => h.elim)
                      obtain ⟨rfl, rfl⟩ := q139
                      refine ri_callS C km_J19_parentOf q1116 dJ19_fixAfterInsertion_142 (mt_J19_parentOfR htr (y := (some gn)) f1047_pn) rfl rfl ⟨⟨(Nat.le_of_ble_eq_true rfl), (Nat.le_of_ble_eq_true rfl)⟩, (Nat.le_of_ble_eq_true rfl), (Nat.le_of_ble_eq_true rfl), (Nat.le_of_ble_eq_true rfl)⟩ (fun v142 z142 q142 => ?_) (fun _ _ _ h => h.elim)
                      obtain ⟨rfl, rfl⟩ := q142
                      refine ri_callV C km_J19_rotateRight q1135 qs10 dJ19_fixAfterInsertion_145 (mt_J19_rotateRight htr (Bx := (Bx)) (pn := gn) (rn := pn) (ta := (.branch usn usl usr)) (tb := ts) (td := (.branch xa xl xr)) h1047) rfl rfl (kx_rcN C h1047.1 rfl) ⟨⟨(Nat.le_of_ble_eq_true rfl), (Nat.le_of_ble_eq_true rfl)⟩, (Nat.le_of_ble_eq_true rfl), (Nat.le_of_ble_eq_true rfl), (Nat.le_of_ble_eq_true rfl)⟩ (fun v145 z145 q145 => ?_) (fun _ _ _ h => h.elim)
                      obtain ⟨rfl, H1048, e1048⟩ := q145
                      have h1048 : tm_H z145 ct mp (tt_p Bx (.branch pn (.branch xa xl xr) (.branch gn ts (.branch usn usl usr)))) K V (tm_c (tm_c D1 pn (nI 1)) gn (nI 0)) vals sz md := H1048
                      have e1048 : kx_Fr (tm_T ct (tt_i (tt_p Bx (.branch gn (.branch pn (.branch xa xl xr) ts) (.branch usn usl usr))))) z142 z145 := e1048
                      rw [i1047] at e1048
                      have i1048 : tt_i (tt_p Bx (.branch pn (.branch xa xl xr) (.branch gn ts (.branch usn usl usr)))) = L0 := (by rw [← i1047]; simp [tt_i_p, tt_p, tt_i])
                      have F1048 := kx_Fr.tr F1047 e1048
                      obtain ⟨⟨f1048_pn, ⟨f1048_xa, f1048_xl, f1048_xr⟩, ⟨f1048_gn, f1048_ts, ⟨f1048_usn, f1048_usl, f1048_usr⟩⟩⟩, fK1048⟩ := (tt_H_p Bx (.branch pn (.branch xa xl xr) (.branch gn ts (.branch usn usl usr)))).mp h1048.2.1
                      refine ri_goto C 5 dJ19_fixAfterInsertion_148 rfl ?_
                      refine ri_lv2 (ih (i + 1) ((true, pn, (.branch gn ts (.branch usn usl usr))) :: Bx) xa xl xr _ _ (by omega) (by omega) ⟨h1048, i1048, F1048, ?_⟩) ⟨rfl, rfl, trivial⟩
                      first
                        | exact Or.inl (by simp only [List.length_cons, List.length_nil] at hln ⊢; omega)
                        | exact Or.inr ⟨by simp only [List.length_cons, List.length_nil] at hln; omega, fun q hq => by cases hq; exact if_pos rfl⟩
                    · exfalso; obtain ⟨A9, C9, hA9⟩ := List.append_of_mem (tt_r_in h105.symm); have nd9 := h1045.2.2.1; simp [tt_i_p, tt_p, tt_i, hA9, List.nodup_append] at nd9
                  · refine ri_aload_n C dJ19_fixAfterInsertion_62 rfl ?_
                    refine ri_callS C km_J19_parentOf q1116 dJ19_fixAfterInsertion_63 (mt_J19_parentOfR htr (y := (some pn)) f1045_xa) rfl rfl ⟨⟨(Nat.le_of_ble_eq_true rfl), (Nat.le_of_ble_eq_true rfl)⟩, (Nat.le_of_ble_eq_true rfl), (Nat.le_of_ble_eq_true rfl), (Nat.le_of_ble_eq_true rfl)⟩ (fun v63 z63 q63 => ?_) (fun _ _ _ h => h.elim)
                    obtain ⟨rfl, rfl⟩ := q63
                    refine ri_iconst C dJ19_fixAfterInsertion_66 kc_i1 ?_
                    refine ri_callS C km_J19_setColor q1128 dJ19_fixAfterInsertion_67 (mt_J19_setColorT htr h1045 (an := pn) (by simp [tt_i_p, tt_p, tt_i]) (Or.inr rfl)) rfl rfl ⟨⟨(Nat.le_of_ble_eq_true rfl), (Nat.le_of_ble_eq_true rfl)⟩, (Nat.le_of_ble_eq_true rfl), (Nat.le_of_ble_eq_true rfl), (Nat.le_of_ble_eq_true rfl)⟩ (fun v67 z67 q67 => ?_) (fun _ _ _ h => h.elim)
                    obtain ⟨rfl, h1049, e1049⟩ := q67
                    rw [i1045] at e1049
                    have i1049 := i1045
                    have F1049 := kx_Fr.tr F1045 e1049
                    obtain ⟨⟨f1049_gn, ⟨f1049_pn, ⟨f1049_xa, f1049_xl, f1049_xr⟩, f1049_ts⟩, ⟨f1049_usn, f1049_usl, f1049_usr⟩⟩, fK1049⟩ := (tt_H_p Bx (.branch gn (.branch pn (.branch xa xl xr) ts) (.branch usn usl usr))).mp h1049.2.1
                    refine ri_aload_n C dJ19_fixAfterInsertion_70 rfl ?_
                    refine ri_iconst C dJ19_fixAfterInsertion_71 kc_i1 ?_
                    refine ri_callS C km_J19_setColor q1128 dJ19_fixAfterInsertion_72 (mt_J19_setColorT htr h1049 (an := usn) (by simp [tt_i_p, tt_p, tt_i]) (Or.inr rfl)) rfl rfl ⟨⟨(Nat.le_of_ble_eq_true rfl), (Nat.le_of_ble_eq_true rfl)⟩, (Nat.le_of_ble_eq_true rfl), (Nat.le_of_ble_eq_true rfl), (Nat.le_of_ble_eq_true rfl)⟩ (fun v72 z72 q72 => ?_) (fun _ _ _ h => h.elim)
                    obtain ⟨rfl, h1050, e1050⟩ := q72
                    rw [i1049] at e1050
                    have i1050 := i1049
                    have F1050 := kx_Fr.tr F1049 e1050
                    obtain ⟨⟨f1050_gn, ⟨f1050_pn, ⟨f1050_xa, f1050_xl, f1050_xr⟩, f1050_ts⟩, ⟨f1050_usn, f1050_usl, f1050_usr⟩⟩, fK1050⟩ := (tt_H_p Bx (.branch gn (.branch pn (.branch xa xl xr) ts) (.branch usn usl usr))).mp h1050.2.1
                    refine ri_aload_n C dJ19_fixAfterInsertion_75 rfl ?_
                    refine ri_callS C km_J19_parentOf q1116 dJ19_fixAfterInsertion_76 (mt_J19_parentOfR htr (y := (some pn)) f1050_xa) rfl rfl ⟨⟨(Nat.le_of_ble_eq_true rfl), (Nat.le_of_ble_eq_true rfl)⟩, (Nat.le_of_ble_eq_true rfl), (Nat.le_of_ble_eq_true rfl), (Nat.le_of_ble_eq_true rfl)⟩ (fun v76 z76 q76 => ?_) (fun _ _ _ h => h.elim)
                    obtain ⟨rfl, rfl⟩ := q76
                    refine ri_callS C km_J19_parentOf q1116 dJ19_fixAfterInsertion_79 (mt_J19_parentOfR htr (y := (some gn)) f1050_pn) rfl rfl ⟨⟨(Nat.le_of_ble_eq_true rfl), (Nat.le_of_ble_eq_true rfl)⟩, (Nat.le_of_ble_eq_true rfl), (Nat.le_of_ble_eq_true rfl), (Nat.le_of_ble_eq_true rfl)⟩ (fun v79 z79 q79 => ?_) (fun _ _ _ h => h.elim)
                    obtain ⟨rfl, rfl⟩ := q79
                    refine ri_iconst C dJ19_fixAfterInsertion_82 kc_i0 ?_
                    refine ri_callS C km_J19_setColor q1128 dJ19_fixAfterInsertion_83 (mt_J19_setColorT htr h1050 (an := gn) (by simp [tt_i_p, tt_p, tt_i]) (Or.inl rfl)) rfl rfl ⟨⟨(Nat.le_of_ble_eq_true rfl), (Nat.le_of_ble_eq_true rfl)⟩, (Nat.le_of_ble_eq_true rfl), (Nat.le_of_ble_eq_true rfl), (Nat.le_of_ble_eq_true rfl)⟩ (fun v83 z83 q83 => ?_) (fun _ _ _ h => h.elim)
                    obtain ⟨rfl, h1051, e1051⟩ := q83
                    rw [i1050] at e1051
                    have i1051 := i1050
                    have F1051 := kx_Fr.tr F1050 e1051
                    obtain ⟨⟨f1051_gn, ⟨f1051_pn, ⟨f1051_xa, f1051_xl, f1051_xr⟩, f1051_ts⟩, ⟨f1051_usn, f1051_usl, f1051_usr⟩⟩, fK1051⟩ := (tt_H_p Bx (.branch gn (.branch pn (.branch xa xl xr) ts) (.branch usn usl usr))).mp h1051.2.1
                    refine ri_aload_n C dJ19_fixAfterInsertion_86 rfl ?_
                    refine ri_callS C km_J19_parentOf q1116 dJ19_fixAfterInsertion_87 (mt_J19_parentOfR htr (y := (some pn)) f1051_xa) rfl rfl ⟨⟨(Nat.le_of_ble_eq_true rfl), (Nat.le_of_ble_eq_true rfl)⟩, (Nat.le_of_ble_eq_true rfl), (Nat.le_of_ble_eq_true rfl), (Nat.le_of_ble_eq_true rfl)⟩ (fun v87 z87 q87 => ?_) (fun _ _ _ h => h.elim)
                    obtain ⟨rfl, rfl⟩ := q87
                    refine ri_callS C km_J19_parentOf q1116 dJ19_fixAfterInsertion_90 (mt_J19_parentOfR htr (y := (some gn)) f1051_pn) rfl rfl ⟨⟨(Nat.le_of_ble_eq_true rfl), (Nat.le_of_ble_eq_true rfl)⟩, (Nat.le_of_ble_eq_true rfl), (Nat.le_of_ble_eq_true rfl), (Nat.le_of_ble_eq_true rfl)⟩ (fun v90 z90 q90 => ?_) (fun _ _ _ h => h.elim)
                    obtain ⟨rfl, rfl⟩ := q90
                    refine ri_astore_n (x := gn) C dJ19_fixAfterInsertion_93 rfl (by decide) ?_
                    refine ri_goto C 148 dJ19_fixAfterInsertion_94 rfl ?_
                    refine ri_goto C 5 dJ19_fixAfterInsertion_148 rfl ?_
                    refine ri_lv2 (ih (i + 1) (Bx) gn (.branch pn (.branch xa xl xr) ts) (.branch usn usl usr) _ _ (by omega) (by omega) ⟨h1051, i1051, F1051, ?_⟩) ⟨rfl, rfl, trivial⟩
                    first
                      | exact Or.inl (by simp only [List.length_cons, List.length_nil] at hln ⊢; omega)
                      | exact Or.inr ⟨by simp only [List.length_cons, List.length_nil] at hln; omega, fun q hq => by cases hq; exact if_pos rfl⟩
  have hc0 := ((tt_H_p Bx _).mp h.2.1).1.1
  refine ri_aload_n C dJ19_fixAfterInsertion_0 rfl ?_
  refine ri_iconst C dJ19_fixAfterInsertion_1 kc_i0 ?_
  refine ri_putf C dJ19_fixAfterInsertion_2 fd_q1091_19 (fun h => nomatch h) hc0 (Nat.le_of_ble_eq_true rfl) (by rfl) (by rfl) (by dsimp only [List.set] <;> rfl) (fun s2 e2 => ?_)
  refine ri_lv2 (LP (L0.length + 6) 0 Bx xa xl xr (tm_c D xa (nI 0)) _ (by omega) (by omega) ⟨tm_set_c h hc0 e2 (Or.inl rfl), hL0.symm, kx_Fr.up2 kx_Fr.rf e2 (tm_T_e (by rw [hL0, tt_i_p]; simp [tt_i])), Or.inl (by omega)⟩) ⟨rfl, rfl, trivial⟩
