/-! the JDK: a TreeMap's tree turned -/
set_option maxRecDepth 100000
theorem va_rf_i {x y : Option Nat} (h : va_rf x = va_rf y) : x = y := by
  cases x <;> cases y <;> simp [va_rf] at h ⊢
  exact h
theorem tm_inj {K V : Nat → Nat} {D : Nat → Int32} {σ : kx_H} {t : kx_T} {a : Nat} {l r p l' r' p' : Option Nat} (h : σ t = some (a, tm_e K V D a l r p)) (g : σ t = some (a, tm_e K V D a l' r' p')) : l = l' ∧ r = r' ∧ p = p' := by
  have e := h.symm.trans g
  simp only [Option.some.injEq, Prod.mk.injEq, true_and, Sum.inr.injEq, List.cons.injEq, and_true] at e
  exact ⟨va_rf_i e.1, va_rf_i e.2.1, va_rf_i e.2.2⟩
theorem tt_r_p : ∀ (B : tt_C) (f : Bool × Nat × tt_T) (t t' : tt_T), tt_r (tt_p (f :: B) t) = tt_r (tt_p (f :: B) t')
  | [], (true, _, _), _, _ => rfl
  | [], (false, _, _), _, _ => rfl
  | g :: B, (true, q, s), t, t' => tt_r_p B g (.branch q t s) (.branch q t' s)
  | g :: B, (false, q, s), t, t' => tt_r_p B g (.branch q s t) (.branch q s t')
theorem tm_3 {K V : Nat → Nat} {D D' : Nat → Int32} {σ τ : kx_H} {c : Nat} {b : tt_T} {p p' : Option Nat} (hb : tt_H (tm_M σ c K V D) b p) (h : ∀ e l r, b = .branch e l r → tm_M τ c K V D' e (tt_r l) (tt_r r) p') : ∀ e l r', tt_r b = some e → tm_M σ c K V D e l r' p → tm_M τ c K V D' e l r' p' := by
  intro e l r' he hM
  obtain ⟨b1, b2, hbe, h1⟩ := tt_hd hb he
  obtain ⟨h2, h3, -⟩ := tm_inj hM h1
  rw [h2, h3]
  exact h e b1 b2 hbe
theorem tt_i_rotL {B : tt_C} {p r : Nat} {a b d : tt_T} : tt_i (tt_p B (.branch r (.branch p a b) d)) = tt_i (tt_p B (.branch p a (.branch r b d))) := by
  rw [tt_i_p, tt_i_p]; simp [tt_i]
set_option maxHeartbeats 1000000 in
theorem mt_J19_rotateLeft {l : Launch} {G : kx_G} (htr : l.stackTraces = false) {σ : kx_H} {ct mp pn rn : Nat} {K V : Nat → Nat} {D : Nat → Int32} {vals : Option Nat} {sz : Nat} {md : Int32} {Bx : tt_C} {ta tb td : tt_T} (h : tm_H σ ct mp (tt_p Bx (.branch pn ta (.branch rn tb td))) K V D vals sz md) : kx_SP l G yJ19_rotateLeft (ws_ yJ19_rotateLeft cJ19_rotateLeft 3 none) 1 0 0 [.ref mp, .ref pn] σ (fun v τ => v = none ∧ tm_H τ ct mp (tt_p Bx (.branch rn (.branch pn ta tb) td)) K V D vals sz md ∧ kx_Fr (tm_T ct (tt_i (tt_p Bx (.branch pn ta (.branch rn tb td))))) σ τ) kx_nx := by
  refine kx_body htr (by decide +kernel) (own := "java/util/TreeMap") (nm := "rotateLeft") rfl rfl (Nat.le_of_ble_eq_true rfl) ?_
  intro p e s m args below meth c Q C hQ
  obtain ⟨hm, hT, hnd, hD⟩ := h
  obtain ⟨nd1, nd2, nd3⟩ := tt_nd hnd
  have hw := (tt_H_p Bx _).mp hT
  obtain ⟨⟨hp, hTa, hr, hTb, hTd⟩, hK⟩ := hw
  obtain ⟨m1, m2, m3, m4, m5⟩ := tt_nb nd1
  obtain ⟨k1, k2, k3, k4, k5⟩ := tt_nb m2
  have hbp : ∀ x, x ∈ tt_i tb → x ≠ pn := fun x hx q => m4 (by subst q; simp [tt_i, hx])
  have hbr : ∀ x, x ∈ tt_i tb → x ≠ rn := fun x hx q => k3 (by subst q; exact hx)
  have npr : pn ≠ rn := fun q => m4 (by subst q; simp [tt_i])
  have inB : ∀ x, tt_u Bx = some x → x ∉ tt_i (.branch pn ta (.branch rn tb td)) := fun x hx q => nd3 x q (tt_u_in hx)
  have hr : σ (ct, 100 + rn) = some (rn, .inr (19, [.ref (K rn), .ref (V rn), va_rf (tt_r tb), va_rf (tt_r td), .ref pn, .int (D rn)])) := hr
  obtain ⟨L0, hL0⟩ : ∃ L0, L0 = tt_i (tt_p Bx (.branch pn ta (.branch rn tb td))) := ⟨_, rfl⟩
  have inp : pn ∈ L0 := by rw [hL0, tt_i_p]; simp [tt_i]
  have inr' : rn ∈ L0 := by rw [hL0, tt_i_p]; simp [tt_i]
  have inb : ∀ x, x ∈ tt_i tb → x ∈ L0 := fun x hx => by rw [hL0, tt_i_p]; simp [tt_i, hx]
  have inu : ∀ x, tt_u Bx = some x → x ∈ L0 := fun x hx => by rw [hL0, tt_i_p]; have g := tt_ic_m.mp (tt_u_in hx); rcases g with g | g <;> simp [g]
  rcases Bx with _ | ⟨⟨_ | _, qn, ts⟩, Bx⟩
  · have hp : σ (ct, 100 + pn) = some (pn, .inr (19, [.ref (K pn), .ref (V pn), va_rf (tt_r ta), .ref rn, .null, .int (D pn)])) := hp
    first | refine ri_aload_n C dJ19_rotateLeft_0 rfl ?_ | refine ri_aload_nQ C dJ19_rotateLeft_0 rfl ?_ | refine ri_aload_nN C dJ19_rotateLeft_0 rfl ?_
    refine ri_ifnull C dJ19_rotateLeft_1 ?_
    first | refine ri_aload_n C dJ19_rotateLeft_4 rfl ?_ | refine ri_aload_nQ C dJ19_rotateLeft_4 rfl ?_ | refine ri_aload_nN C dJ19_rotateLeft_4 rfl ?_
    refine ri_getf C dJ19_rotateLeft_5 fr_q1087_19 (by first | assumption | (repeat (first | assumption | exact kx_rs (by assumption) | exact kx_ne2 (by omega) | exact kx_ne1 (by omega) | refine kx_ro (by assumption) ?_ ?_ | exact kx_rs rfl | refine kx_ro rfl ?_ ?_))) (by rfl) ?_
    first | refine ri_astore_n C dJ19_rotateLeft_8 rfl (by decide) ?_ | refine ri_astore_nQ C dJ19_rotateLeft_8 rfl (by decide) ?_ | refine ri_astore_nN C dJ19_rotateLeft_8 rfl (by decide) ?_
    first | refine ri_aload_n C dJ19_rotateLeft_9 rfl ?_ | refine ri_aload_nQ C dJ19_rotateLeft_9 rfl ?_ | refine ri_aload_nN C dJ19_rotateLeft_9 rfl ?_
    first | refine ri_aload_n C dJ19_rotateLeft_10 rfl ?_ | refine ri_aload_nQ C dJ19_rotateLeft_10 rfl ?_ | refine ri_aload_nN C dJ19_rotateLeft_10 rfl ?_
    refine ri_getf C dJ19_rotateLeft_11 fr_q1086_19 (by first | assumption | (repeat (first | assumption | exact kx_rs (by assumption) | exact kx_ne2 (by omega) | exact kx_ne1 (by omega) | refine kx_ro (by assumption) ?_ ?_ | exact kx_rs rfl | refine kx_ro rfl ?_ ?_))) (by rfl) ?_
    refine ri_putf C dJ19_rotateLeft_14 fd_q1087_19 (fun h => nomatch h) (by first | assumption | (repeat (first | assumption | exact kx_rs (by assumption) | exact kx_ne2 (by omega) | exact kx_ne1 (by omega) | refine kx_ro (by assumption) ?_ ?_ | exact kx_rs rfl | refine kx_ro rfl ?_ ?_))) (Nat.le_of_ble_eq_true rfl) kx_nrf kx_frf (by dsimp only [List.set] <;> rfl) (fun s14 e14 => ?_)
    first | refine ri_aload_n C dJ19_rotateLeft_17 rfl ?_ | refine ri_aload_nQ C dJ19_rotateLeft_17 rfl ?_ | refine ri_aload_nN C dJ19_rotateLeft_17 rfl ?_
    refine ri_getf C dJ19_rotateLeft_18 fr_q1086_19 (by first | assumption | (repeat (first | assumption | exact kx_rs (by assumption) | exact kx_ne2 (by omega) | exact kx_ne1 (by omega) | refine kx_ro (by assumption) ?_ ?_ | exact kx_rs rfl | refine kx_ro rfl ?_ ?_))) (by rfl) ?_
    refine ri_ifnullQ C 32 dJ19_rotateLeft_21 rfl (fun h21 => ?_) (fun y21 h21 => ?_)
    · first | refine ri_aload_n C dJ19_rotateLeft_32 rfl ?_ | refine ri_aload_nQ C dJ19_rotateLeft_32 rfl ?_ | refine ri_aload_nN C dJ19_rotateLeft_32 rfl ?_
      first | refine ri_aload_n C dJ19_rotateLeft_33 rfl ?_ | refine ri_aload_nQ C dJ19_rotateLeft_33 rfl ?_ | refine ri_aload_nN C dJ19_rotateLeft_33 rfl ?_
      refine ri_getf C dJ19_rotateLeft_34 fr_q1089_19 (by first | assumption | (repeat (first | assumption | exact kx_rs (by assumption) | exact kx_ne2 (by omega) | exact kx_ne1 (by omega) | refine kx_ro (by assumption) ?_ ?_ | exact kx_rs rfl | refine kx_ro rfl ?_ ?_))) (by rfl) ?_
      refine ri_putf C dJ19_rotateLeft_37 fd_q1089_19 (fun h => nomatch h) (by first | assumption | (repeat (first | assumption | exact kx_rs (by assumption) | exact kx_ne2 (by omega) | exact kx_ne1 (by omega) | refine kx_ro (by assumption) ?_ ?_ | exact kx_rs rfl | refine kx_ro rfl ?_ ?_))) (Nat.le_of_ble_eq_true rfl) (by rfl) (by rfl) (by dsimp only [List.set] <;> rfl) (fun s37 e37 => ?_)
      first | refine ri_aload_n C dJ19_rotateLeft_40 rfl ?_ | refine ri_aload_nQ C dJ19_rotateLeft_40 rfl ?_ | refine ri_aload_nN C dJ19_rotateLeft_40 rfl ?_
      refine ri_getf C dJ19_rotateLeft_41 fr_q1089_19 (by first | assumption | (repeat (first | assumption | exact kx_rs (by assumption) | exact kx_ne2 (by omega) | exact kx_ne1 (by omega) | refine kx_ro (by assumption) ?_ ?_ | exact kx_rs rfl | refine kx_ro rfl ?_ ?_))) (by rfl) ?_
      refine ri_ifnonnullN C dJ19_rotateLeft_44 ?_
      first | refine ri_aload_n C dJ19_rotateLeft_47 rfl ?_ | refine ri_aload_nQ C dJ19_rotateLeft_47 rfl ?_ | refine ri_aload_nN C dJ19_rotateLeft_47 rfl ?_
      first | refine ri_aload_n C dJ19_rotateLeft_48 rfl ?_ | refine ri_aload_nQ C dJ19_rotateLeft_48 rfl ?_ | refine ri_aload_nN C dJ19_rotateLeft_48 rfl ?_
      refine ri_putf C dJ19_rotateLeft_49 fd_q577_18 (fun h => nomatch h) (by first | assumption | (repeat (first | assumption | exact kx_rs (by assumption) | exact kx_ne2 (by omega) | exact kx_ne1 (by omega) | refine kx_ro (by assumption) ?_ ?_ | exact kx_rs rfl | refine kx_ro rfl ?_ ?_))) (Nat.le_of_ble_eq_true rfl) (by rfl) (by rfl) (by dsimp only [List.set] <;> rfl) (fun s49 e49 => ?_)
      refine ri_goto C 85 dJ19_rotateLeft_52 rfl ?_
      first | refine ri_aload_n C dJ19_rotateLeft_85 rfl ?_ | refine ri_aload_nQ C dJ19_rotateLeft_85 rfl ?_ | refine ri_aload_nN C dJ19_rotateLeft_85 rfl ?_
      first | refine ri_aload_n C dJ19_rotateLeft_86 rfl ?_ | refine ri_aload_nQ C dJ19_rotateLeft_86 rfl ?_ | refine ri_aload_nN C dJ19_rotateLeft_86 rfl ?_
      refine ri_putf C dJ19_rotateLeft_87 fd_q1086_19 (fun h => nomatch h) (by first | assumption | (repeat (first | assumption | exact kx_rs (by assumption) | exact kx_ne2 (by omega) | exact kx_ne1 (by omega) | refine kx_ro (by assumption) ?_ ?_ | exact kx_rs rfl | refine kx_ro rfl ?_ ?_))) (Nat.le_of_ble_eq_true rfl) (by rfl) (by rfl) (by dsimp only [List.set] <;> rfl) (fun s87 e87 => ?_)
      first | refine ri_aload_n C dJ19_rotateLeft_90 rfl ?_ | refine ri_aload_nQ C dJ19_rotateLeft_90 rfl ?_ | refine ri_aload_nN C dJ19_rotateLeft_90 rfl ?_
      first | refine ri_aload_n C dJ19_rotateLeft_91 rfl ?_ | refine ri_aload_nQ C dJ19_rotateLeft_91 rfl ?_ | refine ri_aload_nN C dJ19_rotateLeft_91 rfl ?_
      refine ri_putf C dJ19_rotateLeft_92 fd_q1089_19 (fun h => nomatch h) (by first | assumption | (repeat (first | assumption | exact kx_rs (by assumption) | exact kx_ne2 (by omega) | exact kx_ne1 (by omega) | refine kx_ro (by assumption) ?_ ?_ | exact kx_rs rfl | refine kx_ro rfl ?_ ?_))) (Nat.le_of_ble_eq_true rfl) (by rfl) (by rfl) (by dsimp only [List.set] <;> rfl) (fun s92 e92 => ?_)
      have FR : kx_Fr (tm_T ct L0) σ s92 := by
        repeat (first | exact kx_Fr.rf | refine kx_Fr.up2 ?_ (by assumption) ?_ | exact tm_T_m | exact tm_T_e inp | exact tm_T_e inr' | exact tm_T_e (inb _ (tt_r_in h21)) | exact tm_T_e (inu _ rfl))
      exact ri_vret C hQ dJ19_rotateLeft_95 (Nat.le_of_ble_eq_true rfl) (Nat.le_of_ble_eq_true rfl) ⟨rfl, ⟨(by first | assumption | (repeat (first | assumption | exact kx_rs (by assumption) | exact kx_ne2 (by omega) | exact kx_ne1 (by omega) | refine kx_ro (by assumption) ?_ ?_ | exact kx_rs rfl | refine kx_ro rfl ?_ ?_))), tt_rotL hnd hT (by first | assumption | (repeat (first | assumption | exact kx_rs (by assumption) | exact kx_ne2 (by omega) | exact kx_ne1 (by omega) | refine kx_ro (by assumption) ?_ ?_ | exact kx_rs rfl | refine kx_ro rfl ?_ ?_))) (by first | assumption | (repeat (first | assumption | exact kx_rs (by assumption) | exact kx_ne2 (by omega) | exact kx_ne1 (by omega) | refine kx_ro (by assumption) ?_ ?_ | exact kx_rs rfl | refine kx_ro rfl ?_ ?_))) (tm_3 hTb (by
          intro e l r hbe2
          first
            | (exfalso; rw [hbe2] at h21; cases h21; done)
            | (rw [hbe] at hbe2; cases hbe2; exact (by first | assumption | (repeat (first | assumption | exact kx_rs (by assumption) | exact kx_ne2 (by omega) | exact kx_ne1 (by omega) | refine kx_ro (by assumption) ?_ ?_ | exact kx_rs rfl | refine kx_ro rfl ?_ ?_)))))) trivial (by
          intro x h1 h2 h3 h4 l r q h
          try (have h3' : x ≠ y21 := fun z => h3 (by rw [h21, z]))
          try (have h4' : x ≠ qn := fun z => h4 (by rw [z]; rfl))
          repeat (first | exact h | refine kx_ro (by assumption) ?_ ?_ | exact kx_ne2 (by omega))), by rw [tt_i_rotL]; exact hnd, hD⟩, by rw [← hL0]; exact FR⟩
    · obtain ⟨b1, b2, hbe, he⟩ := tt_hd hTb h21
      have ny1 := hbp _ (tt_r_in h21)
      have ny2 := hbr _ (tt_r_in h21)
      try (have nyq2 : qn ≠ y21 := fun q => inB qn rfl (by subst q; simp [tt_i, tt_r_in h21]))
      first | refine ri_aload_n C dJ19_rotateLeft_24 rfl ?_ | refine ri_aload_nQ C dJ19_rotateLeft_24 rfl ?_ | refine ri_aload_nN C dJ19_rotateLeft_24 rfl ?_
      refine ri_getf C dJ19_rotateLeft_25 fr_q1086_19 (by first | assumption | (repeat (first | assumption | exact kx_rs (by assumption) | exact kx_ne2 (by omega) | exact kx_ne1 (by omega) | refine kx_ro (by assumption) ?_ ?_ | exact kx_rs rfl | refine kx_ro rfl ?_ ?_))) (by rfl) ?_
      rw [h21]
      first | refine ri_aload_n C dJ19_rotateLeft_28 rfl ?_ | refine ri_aload_nQ C dJ19_rotateLeft_28 rfl ?_ | refine ri_aload_nN C dJ19_rotateLeft_28 rfl ?_
      refine ri_putf C dJ19_rotateLeft_29 fd_q1089_19 (fun h => nomatch h) (by first | assumption | (repeat (first | assumption | exact kx_rs (by assumption) | exact kx_ne2 (by omega) | exact kx_ne1 (by omega) | refine kx_ro (by assumption) ?_ ?_ | exact kx_rs rfl | refine kx_ro rfl ?_ ?_))) (Nat.le_of_ble_eq_true rfl) (by rfl) (by rfl) (by dsimp only [List.set] <;> rfl) (fun s29 e29 => ?_)
      first | refine ri_aload_n C dJ19_rotateLeft_32 rfl ?_ | refine ri_aload_nQ C dJ19_rotateLeft_32 rfl ?_ | refine ri_aload_nN C dJ19_rotateLeft_32 rfl ?_
      first | refine ri_aload_n C dJ19_rotateLeft_33 rfl ?_ | refine ri_aload_nQ C dJ19_rotateLeft_33 rfl ?_ | refine ri_aload_nN C dJ19_rotateLeft_33 rfl ?_
      refine ri_getf C dJ19_rotateLeft_34 fr_q1089_19 (by first | assumption | (repeat (first | assumption | exact kx_rs (by assumption) | exact kx_ne2 (by omega) | exact kx_ne1 (by omega) | refine kx_ro (by assumption) ?_ ?_ | exact kx_rs rfl | refine kx_ro rfl ?_ ?_))) (by rfl) ?_
      refine ri_putf C dJ19_rotateLeft_37 fd_q1089_19 (fun h => nomatch h) (by first | assumption | (repeat (first | assumption | exact kx_rs (by assumption) | exact kx_ne2 (by omega) | exact kx_ne1 (by omega) | refine kx_ro (by assumption) ?_ ?_ | exact kx_rs rfl | refine kx_ro rfl ?_ ?_))) (Nat.le_of_ble_eq_true rfl) (by rfl) (by rfl) (by dsimp only [List.set] <;> rfl) (fun s37 e37 => ?_)
      first | refine ri_aload_n C dJ19_rotateLeft_40 rfl ?_ | refine ri_aload_nQ C dJ19_rotateLeft_40 rfl ?_ | refine ri_aload_nN C dJ19_rotateLeft_40 rfl ?_
      refine ri_getf C dJ19_rotateLeft_41 fr_q1089_19 (by first | assumption | (repeat (first | assumption | exact kx_rs (by assumption) | exact kx_ne2 (by omega) | exact kx_ne1 (by omega) | refine kx_ro (by assumption) ?_ ?_ | exact kx_rs rfl | refine kx_ro rfl ?_ ?_))) (by rfl) ?_
      refine ri_ifnonnullN C dJ19_rotateLeft_44 ?_
      first | refine ri_aload_n C dJ19_rotateLeft_47 rfl ?_ | refine ri_aload_nQ C dJ19_rotateLeft_47 rfl ?_ | refine ri_aload_nN C dJ19_rotateLeft_47 rfl ?_
      first | refine ri_aload_n C dJ19_rotateLeft_48 rfl ?_ | refine ri_aload_nQ C dJ19_rotateLeft_48 rfl ?_ | refine ri_aload_nN C dJ19_rotateLeft_48 rfl ?_
      refine ri_putf C dJ19_rotateLeft_49 fd_q577_18 (fun h => nomatch h) (by first | assumption | (repeat (first | assumption | exact kx_rs (by assumption) | exact kx_ne2 (by omega) | exact kx_ne1 (by omega) | refine kx_ro (by assumption) ?_ ?_ | exact kx_rs rfl | refine kx_ro rfl ?_ ?_))) (Nat.le_of_ble_eq_true rfl) (by rfl) (by rfl) (by dsimp only [List.set] <;> rfl) (fun s49 e49 => ?_)
      refine ri_goto C 85 dJ19_rotateLeft_52 rfl ?_
      first | refine ri_aload_n C dJ19_rotateLeft_85 rfl ?_ | refine ri_aload_nQ C dJ19_rotateLeft_85 rfl ?_ | refine ri_aload_nN C dJ19_rotateLeft_85 rfl ?_
      first | refine ri_aload_n C dJ19_rotateLeft_86 rfl ?_ | refine ri_aload_nQ C dJ19_rotateLeft_86 rfl ?_ | refine ri_aload_nN C dJ19_rotateLeft_86 rfl ?_
      refine ri_putf C dJ19_rotateLeft_87 fd_q1086_19 (fun h => nomatch h) (by first | assumption | (repeat (first | assumption | exact kx_rs (by assumption) | exact kx_ne2 (by omega) | exact kx_ne1 (by omega) | refine kx_ro (by assumption) ?_ ?_ | exact kx_rs rfl | refine kx_ro rfl ?_ ?_))) (Nat.le_of_ble_eq_true rfl) (by rfl) (by rfl) (by dsimp only [List.set] <;> rfl) (fun s87 e87 => ?_)
      first | refine ri_aload_n C dJ19_rotateLeft_90 rfl ?_ | refine ri_aload_nQ C dJ19_rotateLeft_90 rfl ?_ | refine ri_aload_nN C dJ19_rotateLeft_90 rfl ?_
      first | refine ri_aload_n C dJ19_rotateLeft_91 rfl ?_ | refine ri_aload_nQ C dJ19_rotateLeft_91 rfl ?_ | refine ri_aload_nN C dJ19_rotateLeft_91 rfl ?_
      refine ri_putf C dJ19_rotateLeft_92 fd_q1089_19 (fun h => nomatch h) (by first | assumption | (repeat (first | assumption | exact kx_rs (by assumption) | exact kx_ne2 (by omega) | exact kx_ne1 (by omega) | refine kx_ro (by assumption) ?_ ?_ | exact kx_rs rfl | refine kx_ro rfl ?_ ?_))) (Nat.le_of_ble_eq_true rfl) (by rfl) (by rfl) (by dsimp only [List.set] <;> rfl) (fun s92 e92 => ?_)
      have FR : kx_Fr (tm_T ct L0) σ s92 := by
        repeat (first | exact kx_Fr.rf | refine kx_Fr.up2 ?_ (by assumption) ?_ | exact tm_T_m | exact tm_T_e inp | exact tm_T_e inr' | exact tm_T_e (inb _ (tt_r_in h21)) | exact tm_T_e (inu _ rfl))
      exact ri_vret C hQ dJ19_rotateLeft_95 (Nat.le_of_ble_eq_true rfl) (Nat.le_of_ble_eq_true rfl) ⟨rfl, ⟨(by first | assumption | (repeat (first | assumption | exact kx_rs (by assumption) | exact kx_ne2 (by omega) | exact kx_ne1 (by omega) | refine kx_ro (by assumption) ?_ ?_ | exact kx_rs rfl | refine kx_ro rfl ?_ ?_))), tt_rotL hnd hT (by first | assumption | (repeat (first | assumption | exact kx_rs (by assumption) | exact kx_ne2 (by omega) | exact kx_ne1 (by omega) | refine kx_ro (by assumption) ?_ ?_ | exact kx_rs rfl | refine kx_ro rfl ?_ ?_))) (by first | assumption | (repeat (first | assumption | exact kx_rs (by assumption) | exact kx_ne2 (by omega) | exact kx_ne1 (by omega) | refine kx_ro (by assumption) ?_ ?_ | exact kx_rs rfl | refine kx_ro rfl ?_ ?_))) (tm_3 hTb (by
          intro e l r hbe2
          first
            | (exfalso; rw [hbe2] at h21; cases h21; done)
            | (rw [hbe] at hbe2; cases hbe2; exact (by first | assumption | (repeat (first | assumption | exact kx_rs (by assumption) | exact kx_ne2 (by omega) | exact kx_ne1 (by omega) | refine kx_ro (by assumption) ?_ ?_ | exact kx_rs rfl | refine kx_ro rfl ?_ ?_)))))) trivial (by
          intro x h1 h2 h3 h4 l r q h
          try (have h3' : x ≠ y21 := fun z => h3 (by rw [h21, z]))
          try (have h4' : x ≠ qn := fun z => h4 (by rw [z]; rfl))
          repeat (first | exact h | refine kx_ro (by assumption) ?_ ?_ | exact kx_ne2 (by omega))), by rw [tt_i_rotL]; exact hnd, hD⟩, by rw [← hL0]; exact FR⟩
  · have hq : σ (ct, 100 + qn) = some (qn, .inr (19, [.ref (K qn), .ref (V qn), va_rf (tt_r ts), .ref pn, va_rf (tt_u Bx), .int (D qn)])) := hK.1
    have nqp : qn ≠ pn := fun q => inB qn rfl (by subst q; simp [tt_i])
    have nqr : qn ≠ rn := fun q => inB qn rfl (by subst q; simp [tt_i])
    have hts : tt_r ts ≠ some pn := fun q => nd3 pn (by simp [tt_i]) (by simp [tt_ic, tt_r_in q])
    have hp : σ (ct, 100 + pn) = some (pn, .inr (19, [.ref (K pn), .ref (V pn), va_rf (tt_r ta), .ref rn, .ref qn, .int (D pn)])) := hp
    first | refine ri_aload_n C dJ19_rotateLeft_0 rfl ?_ | refine ri_aload_nQ C dJ19_rotateLeft_0 rfl ?_ | refine ri_aload_nN C dJ19_rotateLeft_0 rfl ?_
    refine ri_ifnull C dJ19_rotateLeft_1 ?_
    first | refine ri_aload_n C dJ19_rotateLeft_4 rfl ?_ | refine ri_aload_nQ C dJ19_rotateLeft_4 rfl ?_ | refine ri_aload_nN C dJ19_rotateLeft_4 rfl ?_
    refine ri_getf C dJ19_rotateLeft_5 fr_q1087_19 (by first | assumption | (repeat (first | assumption | exact kx_rs (by assumption) | exact kx_ne2 (by omega) | exact kx_ne1 (by omega) | refine kx_ro (by assumption) ?_ ?_ | exact kx_rs rfl | refine kx_ro rfl ?_ ?_))) (by rfl) ?_
    first | refine ri_astore_n C dJ19_rotateLeft_8 rfl (by decide) ?_ | refine ri_astore_nQ C dJ19_rotateLeft_8 rfl (by decide) ?_ | refine ri_astore_nN C dJ19_rotateLeft_8 rfl (by decide) ?_
    first | refine ri_aload_n C dJ19_rotateLeft_9 rfl ?_ | refine ri_aload_nQ C dJ19_rotateLeft_9 rfl ?_ | refine ri_aload_nN C dJ19_rotateLeft_9 rfl ?_
    first | refine ri_aload_n C dJ19_rotateLeft_10 rfl ?_ | refine ri_aload_nQ C dJ19_rotateLeft_10 rfl ?_ | refine ri_aload_nN C dJ19_rotateLeft_10 rfl ?_
    refine ri_getf C dJ19_rotateLeft_11 fr_q1086_19 (by first | assumption | (repeat (first | assumption | exact kx_rs (by assumption) | exact kx_ne2 (by omega) | exact kx_ne1 (by omega) | refine kx_ro (by assumption) ?_ ?_ | exact kx_rs rfl | refine kx_ro rfl ?_ ?_))) (by rfl) ?_
    refine ri_putf C dJ19_rotateLeft_14 fd_q1087_19 (fun h => nomatch h) (by first | assumption | (repeat (first | assumption | exact kx_rs (by assumption) | exact kx_ne2 (by omega) | exact kx_ne1 (by omega) | refine kx_ro (by assumption) ?_ ?_ | exact kx_rs rfl | refine kx_ro rfl ?_ ?_))) (Nat.le_of_ble_eq_true rfl) kx_nrf kx_frf (by dsimp only [List.set] <;> rfl) (fun s14 e14 => ?_)
    first | refine ri_aload_n C dJ19_rotateLeft_17 rfl ?_ | refine ri_aload_nQ C dJ19_rotateLeft_17 rfl ?_ | refine ri_aload_nN C dJ19_rotateLeft_17 rfl ?_
    refine ri_getf C dJ19_rotateLeft_18 fr_q1086_19 (by first | assumption | (repeat (first | assumption | exact kx_rs (by assumption) | exact kx_ne2 (by omega) | exact kx_ne1 (by omega) | refine kx_ro (by assumption) ?_ ?_ | exact kx_rs rfl | refine kx_ro rfl ?_ ?_))) (by rfl) ?_
    refine ri_ifnullQ C 32 dJ19_rotateLeft_21 rfl (fun h21 => ?_) (fun y21 h21 => ?_)
    · first | refine ri_aload_n C dJ19_rotateLeft_32 rfl ?_ | refine ri_aload_nQ C dJ19_rotateLeft_32 rfl ?_ | refine ri_aload_nN C dJ19_rotateLeft_32 rfl ?_
      first | refine ri_aload_n C dJ19_rotateLeft_33 rfl ?_ | refine ri_aload_nQ C dJ19_rotateLeft_33 rfl ?_ | refine ri_aload_nN C dJ19_rotateLeft_33 rfl ?_
      refine ri_getf C dJ19_rotateLeft_34 fr_q1089_19 (by first | assumption | (repeat (first | assumption | exact kx_rs (by assumption) | exact kx_ne2 (by omega) | exact kx_ne1 (by omega) | refine kx_ro (by assumption) ?_ ?_ | exact kx_rs rfl | refine kx_ro rfl ?_ ?_))) (by rfl) ?_
      refine ri_putf C dJ19_rotateLeft_37 fd_q1089_19 (fun h => nomatch h) (by first | assumption | (repeat (first | assumption | exact kx_rs (by assumption) | exact kx_ne2 (by omega) | exact kx_ne1 (by omega) | refine kx_ro (by assumption) ?_ ?_ | exact kx_rs rfl | refine kx_ro rfl ?_ ?_))) (Nat.le_of_ble_eq_true rfl) (by rfl) (by rfl) (by dsimp only [List.set] <;> rfl) (fun s37 e37 => ?_)
      first | refine ri_aload_n C dJ19_rotateLeft_40 rfl ?_ | refine ri_aload_nQ C dJ19_rotateLeft_40 rfl ?_ | refine ri_aload_nN C dJ19_rotateLeft_40 rfl ?_
      refine ri_getf C dJ19_rotateLeft_41 fr_q1089_19 (by first | assumption | (repeat (first | assumption | exact kx_rs (by assumption) | exact kx_ne2 (by omega) | exact kx_ne1 (by omega) | refine kx_ro (by assumption) ?_ ?_ | exact kx_rs rfl | refine kx_ro rfl ?_ ?_))) (by rfl) ?_
      refine ri_ifnonnull C 55 dJ19_rotateLeft_44 rfl ?_
      first | refine ri_aload_n C dJ19_rotateLeft_55 rfl ?_ | refine ri_aload_nQ C dJ19_rotateLeft_55 rfl ?_ | refine ri_aload_nN C dJ19_rotateLeft_55 rfl ?_
      refine ri_getf C dJ19_rotateLeft_56 fr_q1089_19 (by first | assumption | (repeat (first | assumption | exact kx_rs (by assumption) | exact kx_ne2 (by omega) | exact kx_ne1 (by omega) | refine kx_ro (by assumption) ?_ ?_ | exact kx_rs rfl | refine kx_ro rfl ?_ ?_))) (by rfl) ?_
      refine ri_getf C dJ19_rotateLeft_59 fr_q1086_19 (by first | assumption | (repeat (first | assumption | exact kx_rs (by assumption) | exact kx_ne2 (by omega) | exact kx_ne1 (by omega) | refine kx_ro (by assumption) ?_ ?_ | exact kx_rs rfl | refine kx_ro rfl ?_ ?_))) (by rfl) ?_
      first | refine ri_aload_n C dJ19_rotateLeft_62 rfl ?_ | refine ri_aload_nQ C dJ19_rotateLeft_62 rfl ?_ | refine ri_aload_nN C dJ19_rotateLeft_62 rfl ?_
      refine ri_acmp_neL C 77 dJ19_rotateLeft_63 rfl (fun h63 => ?_) (fun h63 => ?_)
      · first | refine ri_aload_n C dJ19_rotateLeft_77 rfl ?_ | refine ri_aload_nQ C dJ19_rotateLeft_77 rfl ?_ | refine ri_aload_nN C dJ19_rotateLeft_77 rfl ?_
        refine ri_getf C dJ19_rotateLeft_78 fr_q1089_19 (by first | assumption | (repeat (first | assumption | exact kx_rs (by assumption) | exact kx_ne2 (by omega) | exact kx_ne1 (by omega) | refine kx_ro (by assumption) ?_ ?_ | exact kx_rs rfl | refine kx_ro rfl ?_ ?_))) (by rfl) ?_
        first | refine ri_aload_n C dJ19_rotateLeft_81 rfl ?_ | refine ri_aload_nQ C dJ19_rotateLeft_81 rfl ?_ | refine ri_aload_nN C dJ19_rotateLeft_81 rfl ?_
        refine ri_putf C dJ19_rotateLeft_82 fd_q1087_19 (fun h => nomatch h) (by first | assumption | (repeat (first | assumption | exact kx_rs (by assumption) | exact kx_ne2 (by omega) | exact kx_ne1 (by omega) | refine kx_ro (by assumption) ?_ ?_ | exact kx_rs rfl | refine kx_ro rfl ?_ ?_))) (Nat.le_of_ble_eq_true rfl) (by rfl) (by rfl) (by dsimp only [List.set] <;> rfl) (fun s82 e82 => ?_)
        first | refine ri_aload_n C dJ19_rotateLeft_85 rfl ?_ | refine ri_aload_nQ C dJ19_rotateLeft_85 rfl ?_ | refine ri_aload_nN C dJ19_rotateLeft_85 rfl ?_
        first | refine ri_aload_n C dJ19_rotateLeft_86 rfl ?_ | refine ri_aload_nQ C dJ19_rotateLeft_86 rfl ?_ | refine ri_aload_nN C dJ19_rotateLeft_86 rfl ?_
        refine ri_putf C dJ19_rotateLeft_87 fd_q1086_19 (fun h => nomatch h) (by first | assumption | (repeat (first | assumption | exact kx_rs (by assumption) | exact kx_ne2 (by omega) | exact kx_ne1 (by omega) | refine kx_ro (by assumption) ?_ ?_ | exact kx_rs rfl | refine kx_ro rfl ?_ ?_))) (Nat.le_of_ble_eq_true rfl) (by rfl) (by rfl) (by dsimp only [List.set] <;> rfl) (fun s87 e87 => ?_)
        first | refine ri_aload_n C dJ19_rotateLeft_90 rfl ?_ | refine ri_aload_nQ C dJ19_rotateLeft_90 rfl ?_ | refine ri_aload_nN C dJ19_rotateLeft_90 rfl ?_
        first | refine ri_aload_n C dJ19_rotateLeft_91 rfl ?_ | refine ri_aload_nQ C dJ19_rotateLeft_91 rfl ?_ | refine ri_aload_nN C dJ19_rotateLeft_91 rfl ?_
        refine ri_putf C dJ19_rotateLeft_92 fd_q1089_19 (fun h => nomatch h) (by first | assumption | (repeat (first | assumption | exact kx_rs (by assumption) | exact kx_ne2 (by omega) | exact kx_ne1 (by omega) | refine kx_ro (by assumption) ?_ ?_ | exact kx_rs rfl | refine kx_ro rfl ?_ ?_))) (Nat.le_of_ble_eq_true rfl) (by rfl) (by rfl) (by dsimp only [List.set] <;> rfl) (fun s92 e92 => ?_)
        have FR : kx_Fr (tm_T ct L0) σ s92 := by
          repeat (first | exact kx_Fr.rf | refine kx_Fr.up2 ?_ (by assumption) ?_ | exact tm_T_m | exact tm_T_e inp | exact tm_T_e inr' | exact tm_T_e (inb _ (tt_r_in h21)) | exact tm_T_e (inu _ rfl))
        exact ri_vret C hQ dJ19_rotateLeft_95 (Nat.le_of_ble_eq_true rfl) (Nat.le_of_ble_eq_true rfl) ⟨rfl, ⟨by rw [tt_r_p _ _ _ (.branch pn ta (.branch rn tb td))]; exact (by first | assumption | (repeat (first | assumption | exact kx_rs (by assumption) | exact kx_ne2 (by omega) | exact kx_ne1 (by omega) | refine kx_ro (by assumption) ?_ ?_ | exact kx_rs rfl | refine kx_ro rfl ?_ ?_))), tt_rotL hnd hT (by first | assumption | (repeat (first | assumption | exact kx_rs (by assumption) | exact kx_ne2 (by omega) | exact kx_ne1 (by omega) | refine kx_ro (by assumption) ?_ ?_ | exact kx_rs rfl | refine kx_ro rfl ?_ ?_))) (by first | assumption | (repeat (first | assumption | exact kx_rs (by assumption) | exact kx_ne2 (by omega) | exact kx_ne1 (by omega) | refine kx_ro (by assumption) ?_ ?_ | exact kx_rs rfl | refine kx_ro rfl ?_ ?_))) (tm_3 hTb (by
            intro e l r hbe2
            first
              | (exfalso; rw [hbe2] at h21; cases h21; done)
              | (rw [hbe] at hbe2; cases hbe2; exact (by first | assumption | (repeat (first | assumption | exact kx_rs (by assumption) | exact kx_ne2 (by omega) | exact kx_ne1 (by omega) | refine kx_ro (by assumption) ?_ ?_ | exact kx_rs rfl | refine kx_ro rfl ?_ ?_)))))) (by first | assumption | (repeat (first | assumption | exact kx_rs (by assumption) | exact kx_ne2 (by omega) | exact kx_ne1 (by omega) | refine kx_ro (by assumption) ?_ ?_ | exact kx_rs rfl | refine kx_ro rfl ?_ ?_))) (by
            intro x h1 h2 h3 h4 l r q h
            try (have h3' : x ≠ y21 := fun z => h3 (by rw [h21, z]))
            try (have h4' : x ≠ qn := fun z => h4 (by rw [z]; rfl))
            repeat (first | exact h | refine kx_ro (by assumption) ?_ ?_ | exact kx_ne2 (by omega))), by rw [tt_i_rotL]; exact hnd, hD⟩, by rw [← hL0]; exact FR⟩
      · exact absurd h63 hts --dead
    · obtain ⟨b1, b2, hbe, he⟩ := tt_hd hTb h21
      have ny1 := hbp _ (tt_r_in h21)
      have ny2 := hbr _ (tt_r_in h21)
      try (have nyq2 : qn ≠ y21 := fun q => inB qn rfl (by subst q; simp [tt_i, tt_r_in h21]))
      first | refine ri_aload_n C dJ19_rotateLeft_24 rfl ?_ | refine ri_aload_nQ C dJ19_rotateLeft_24 rfl ?_ | refine ri_aload_nN C dJ19_rotateLeft_24 rfl ?_
      refine ri_getf C dJ19_rotateLeft_25 fr_q1086_19 (by first | assumption | (repeat (first | assumption | exact kx_rs (by assumption) | exact kx_ne2 (by omega) | exact kx_ne1 (by omega) | refine kx_ro (by assumption) ?_ ?_ | exact kx_rs rfl | refine kx_ro rfl ?_ ?_))) (by rfl) ?_
      rw [h21]
      first | refine ri_aload_n C dJ19_rotateLeft_28 rfl ?_ | refine ri_aload_nQ C dJ19_rotateLeft_28 rfl ?_ | refine ri_aload_nN C dJ19_rotateLeft_28 rfl ?_
      refine ri_putf C dJ19_rotateLeft_29 fd_q1089_19 (fun h => nomatch h) (by first | assumption | (repeat (first | assumption | exact kx_rs (by assumption) | exact kx_ne2 (by omega) | exact kx_ne1 (by omega) | refine kx_ro (by assumption) ?_ ?_ | exact kx_rs rfl | refine kx_ro rfl ?_ ?_))) (Nat.le_of_ble_eq_true rfl) (by rfl) (by rfl) (by dsimp only [List.set] <;> rfl) (fun s29 e29 => ?_)
      first | refine ri_aload_n C dJ19_rotateLeft_32 rfl ?_ | refine ri_aload_nQ C dJ19_rotateLeft_32 rfl ?_ | refine ri_aload_nN C dJ19_rotateLeft_32 rfl ?_
      first | refine ri_aload_n C dJ19_rotateLeft_33 rfl ?_ | refine ri_aload_nQ C dJ19_rotateLeft_33 rfl ?_ | refine ri_aload_nN C dJ19_rotateLeft_33 rfl ?_
      refine ri_getf C dJ19_rotateLeft_34 fr_q1089_19 (by first | assumption | (repeat (first | assumption | exact kx_rs (by assumption) | exact kx_ne2 (by omega) | exact kx_ne1 (by omega) | refine kx_ro (by assumption) ?_ ?_ | exact kx_rs rfl | refine kx_ro rfl ?_ ?_))) (by rfl) ?_
      refine ri_putf C dJ19_rotateLeft_37 fd_q1089_19 (fun h => nomatch h) (by first | assumption | (repeat (first | assumption | exact kx_rs (by assumption) | exact kx_ne2 (by omega) | exact kx_ne1 (by omega) | refine kx_ro (by assumption) ?_ ?_ | exact kx_rs rfl | refine kx_ro rfl ?_ ?_))) (Nat.le_of_ble_eq_true rfl) (by rfl) (by rfl) (by dsimp only [List.set] <;> rfl) (fun s37 e37 => ?_)
      first | refine ri_aload_n C dJ19_rotateLeft_40 rfl ?_ | refine ri_aload_nQ C dJ19_rotateLeft_40 rfl ?_ | refine ri_aload_nN C dJ19_rotateLeft_40 rfl ?_
      refine ri_getf C dJ19_rotateLeft_41 fr_q1089_19 (by first | assumption | (repeat (first | assumption | exact kx_rs (by assumption) | exact kx_ne2 (by omega) | exact kx_ne1 (by omega) | refine kx_ro (by assumption) ?_ ?_ | exact kx_rs rfl | refine kx_ro rfl ?_ ?_))) (by rfl) ?_
      refine ri_ifnonnull C 55 dJ19_rotateLeft_44 rfl ?_
      first | refine ri_aload_n C dJ19_rotateLeft_55 rfl ?_ | refine ri_aload_nQ C dJ19_rotateLeft_55 rfl ?_ | refine ri_aload_nN C dJ19_rotateLeft_55 rfl ?_
      refine ri_getf C dJ19_rotateLeft_56 fr_q1089_19 (by first | assumption | (repeat (first | assumption | exact kx_rs (by assumption) | exact kx_ne2 (by omega) | exact kx_ne1 (by omega) | refine kx_ro (by assumption) ?_ ?_ | exact kx_rs rfl | refine kx_ro rfl ?_ ?_))) (by rfl) ?_
      refine ri_getf C dJ19_rotateLeft_59 fr_q1086_19 (by first | assumption | (repeat (first | assumption | exact kx_rs (by assumption) | exact kx_ne2 (by omega) | exact kx_ne1 (by omega) | refine kx_ro (by assumption) ?_ ?_ | exact kx_rs rfl | refine kx_ro rfl ?_ ?_))) (by rfl) ?_
      first | refine ri_aload_n C dJ19_rotateLeft_62 rfl ?_ | refine ri_aload_nQ C dJ19_rotateLeft_62 rfl ?_ | refine ri_aload_nN C dJ19_rotateLeft_62 rfl ?_
      refine ri_acmp_neL C 77 dJ19_rotateLeft_63 rfl (fun h63 => ?_) (fun h63 => ?_)
      · first | refine ri_aload_n C dJ19_rotateLeft_77 rfl ?_ | refine ri_aload_nQ C dJ19_rotateLeft_77 rfl ?_ | refine ri_aload_nN C dJ19_rotateLeft_77 rfl ?_
        refine ri_getf C dJ19_rotateLeft_78 fr_q1089_19 (by first | assumption | (repeat (first | assumption | exact kx_rs (by assumption) | exact kx_ne2 (by omega) | exact kx_ne1 (by omega) | refine kx_ro (by assumption) ?_ ?_ | exact kx_rs rfl | refine kx_ro rfl ?_ ?_))) (by rfl) ?_
        first | refine ri_aload_n C dJ19_rotateLeft_81 rfl ?_ | refine ri_aload_nQ C dJ19_rotateLeft_81 rfl ?_ | refine ri_aload_nN C dJ19_rotateLeft_81 rfl ?_
        refine ri_putf C dJ19_rotateLeft_82 fd_q1087_19 (fun h => nomatch h) (by first | assumption | (repeat (first | assumption | exact kx_rs (by assumption) | exact kx_ne2 (by omega) | exact kx_ne1 (by omega) | refine kx_ro (by assumption) ?_ ?_ | exact kx_rs rfl | refine kx_ro rfl ?_ ?_))) (Nat.le_of_ble_eq_true rfl) (by rfl) (by rfl) (by dsimp only [List.set] <;> rfl) (fun s82 e82 => ?_)
        first | refine ri_aload_n C dJ19_rotateLeft_85 rfl ?_ | refine ri_aload_nQ C dJ19_rotateLeft_85 rfl ?_ | refine ri_aload_nN C dJ19_rotateLeft_85 rfl ?_
        first | refine ri_aload_n C dJ19_rotateLeft_86 rfl ?_ | refine ri_aload_nQ C dJ19_rotateLeft_86 rfl ?_ | refine ri_aload_nN C dJ19_rotateLeft_86 rfl ?_
        refine ri_putf C dJ19_rotateLeft_87 fd_q1086_19 (fun h => nomatch h) (by first | assumption | (repeat (first | assumption | exact kx_rs (by assumption) | exact kx_ne2 (by omega) | exact kx_ne1 (by omega) | refine kx_ro (by assumption) ?_ ?_ | exact kx_rs rfl | refine kx_ro rfl ?_ ?_))) (Nat.le_of_ble_eq_true rfl) (by rfl) (by rfl) (by dsimp only [List.set] <;> rfl) (fun s87 e87 => ?_)
        first | refine ri_aload_n C dJ19_rotateLeft_90 rfl ?_ | refine ri_aload_nQ C dJ19_rotateLeft_90 rfl ?_ | refine ri_aload_nN C dJ19_rotateLeft_90 rfl ?_
        first | refine ri_aload_n C dJ19_rotateLeft_91 rfl ?_ | refine ri_aload_nQ C dJ19_rotateLeft_91 rfl ?_ | refine ri_aload_nN C dJ19_rotateLeft_91 rfl ?_
        refine ri_putf C dJ19_rotateLeft_92 fd_q1089_19 (fun h => nomatch h) (by first | assumption | (repeat (first | assumption | exact kx_rs (by assumption) | exact kx_ne2 (by omega) | exact kx_ne1 (by omega) | refine kx_ro (by assumption) ?_ ?_ | exact kx_rs rfl | refine kx_ro rfl ?_ ?_))) (Nat.le_of_ble_eq_true rfl) (by rfl) (by rfl) (by dsimp only [List.set] <;> rfl) (fun s92 e92 => ?_)
        have FR : kx_Fr (tm_T ct L0) σ s92 := by
          repeat (first | exact kx_Fr.rf | refine kx_Fr.up2 ?_ (by assumption) ?_ | exact tm_T_m | exact tm_T_e inp | exact tm_T_e inr' | exact tm_T_e (inb _ (tt_r_in h21)) | exact tm_T_e (inu _ rfl))
        exact ri_vret C hQ dJ19_rotateLeft_95 (Nat.le_of_ble_eq_true rfl) (Nat.le_of_ble_eq_true rfl) ⟨rfl, ⟨by rw [tt_r_p _ _ _ (.branch pn ta (.branch rn tb td))]; exact (by first | assumption | (repeat (first | assumption | exact kx_rs (by assumption) | exact kx_ne2 (by omega) | exact kx_ne1 (by omega) | refine kx_ro (by assumption) ?_ ?_ | exact kx_rs rfl | refine kx_ro rfl ?_ ?_))), tt_rotL hnd hT (by first | assumption | (repeat (first | assumption | exact kx_rs (by assumption) | exact kx_ne2 (by omega) | exact kx_ne1 (by omega) | refine kx_ro (by assumption) ?_ ?_ | exact kx_rs rfl | refine kx_ro rfl ?_ ?_))) (by first | assumption | (repeat (first | assumption | exact kx_rs (by assumption) | exact kx_ne2 (by omega) | exact kx_ne1 (by omega) | refine kx_ro (by assumption) ?_ ?_ | exact kx_rs rfl | refine kx_ro rfl ?_ ?_))) (tm_3 hTb (by
            intro e l r hbe2
            first
              | (exfalso; rw [hbe2] at h21; cases h21; done)
              | (rw [hbe] at hbe2; cases hbe2; exact (by first | assumption | (repeat (first | assumption | exact kx_rs (by assumption) | exact kx_ne2 (by omega) | exact kx_ne1 (by omega) | refine kx_ro (by assumption) ?_ ?_ | exact kx_rs rfl | refine kx_ro rfl ?_ ?_)))))) (by first | assumption | (repeat (first | assumption | exact kx_rs (by assumption) | exact kx_ne2 (by omega) | exact kx_ne1 (by omega) | refine kx_ro (by assumption) ?_ ?_ | exact kx_rs rfl | refine kx_ro rfl ?_ ?_))) (by
            intro x h1 h2 h3 h4 l r q h
            try (have h3' : x ≠ y21 := fun z => h3 (by rw [h21, z]))
            try (have h4' : x ≠ qn := fun z => h4 (by rw [z]; rfl))
            repeat (first | exact h | refine kx_ro (by assumption) ?_ ?_ | exact kx_ne2 (by omega))), by rw [tt_i_rotL]; exact hnd, hD⟩, by rw [← hL0]; exact FR⟩
      · exact absurd h63 hts --dead
  · have hq : σ (ct, 100 + qn) = some (qn, .inr (19, [.ref (K qn), .ref (V qn), .ref pn, va_rf (tt_r ts), va_rf (tt_u Bx), .int (D qn)])) := hK.1
    have nqp : qn ≠ pn := fun q => inB qn rfl (by subst q; simp [tt_i])
    have nqr : qn ≠ rn := fun q => inB qn rfl (by subst q; simp [tt_i])
    have hts : tt_r ts ≠ some pn := fun q => nd3 pn (by simp [tt_i]) (by simp [tt_ic, tt_r_in q])
    have hp : σ (ct, 100 + pn) = some (pn, .inr (19, [.ref (K pn), .ref (V pn), va_rf (tt_r ta), .ref rn, .ref qn, .int (D pn)])) := hp
    first | refine ri_aload_n C dJ19_rotateLeft_0 rfl ?_ | refine ri_aload_nQ C dJ19_rotateLeft_0 rfl ?_ | refine ri_aload_nN C dJ19_rotateLeft_0 rfl ?_
    refine ri_ifnull C dJ19_rotateLeft_1 ?_
    first | refine ri_aload_n C dJ19_rotateLeft_4 rfl ?_ | refine ri_aload_nQ C dJ19_rotateLeft_4 rfl ?_ | refine ri_aload_nN C dJ19_rotateLeft_4 rfl ?_
    refine ri_getf C dJ19_rotateLeft_5 fr_q1087_19 (by first | assumption | (repeat (first | assumption | exact kx_rs (by assumption) | exact kx_ne2 (by omega) | exact kx_ne1 (by omega) | refine kx_ro (by assumption) ?_ ?_ | exact kx_rs rfl | refine kx_ro rfl ?_ ?_))) (by rfl) ?_
    first | refine ri_astore_n C dJ19_rotateLeft_8 rfl (by decide) ?_ | refine ri_astore_nQ C dJ19_rotateLeft_8 rfl (by decide) ?_ | refine ri_astore_nN C dJ19_rotateLeft_8 rfl (by decide) ?_
    first | refine ri_aload_n C dJ19_rotateLeft_9 rfl ?_ | refine ri_aload_nQ C dJ19_rotateLeft_9 rfl ?_ | refine ri_aload_nN C dJ19_rotateLeft_9 rfl ?_
    first | refine ri_aload_n C dJ19_rotateLeft_10 rfl ?_ | refine ri_aload_nQ C dJ19_rotateLeft_10 rfl ?_ | refine ri_aload_nN C dJ19_rotateLeft_10 rfl ?_
    refine ri_getf C dJ19_rotateLeft_11 fr_q1086_19 (by first | assumption | (repeat (first | assumption | exact kx_rs (by assumption) | exact kx_ne2 (by omega) | exact kx_ne1 (by omega) | refine kx_ro (by assumption) ?_ ?_ | exact kx_rs rfl | refine kx_ro rfl ?_ ?_))) (by rfl) ?_
    refine ri_putf C dJ19_rotateLeft_14 fd_q1087_19 (fun h => nomatch h) (by first | assumption | (repeat (first | assumption | exact kx_rs (by assumption) | exact kx_ne2 (by omega) | exact kx_ne1 (by omega) | refine kx_ro (by assumption) ?_ ?_ | exact kx_rs rfl | refine kx_ro rfl ?_ ?_))) (Nat.le_of_ble_eq_true rfl) kx_nrf kx_frf (by dsimp only [List.set] <;> rfl) (fun s14 e14 => ?_)
    first | refine ri_aload_n C dJ19_rotateLeft_17 rfl ?_ | refine ri_aload_nQ C dJ19_rotateLeft_17 rfl ?_ | refine ri_aload_nN C dJ19_rotateLeft_17 rfl ?_
    refine ri_getf C dJ19_rotateLeft_18 fr_q1086_19 (by first | assumption | (repeat (first | assumption | exact kx_rs (by assumption) | exact kx_ne2 (by omega) | exact kx_ne1 (by omega) | refine kx_ro (by assumption) ?_ ?_ | exact kx_rs rfl | refine kx_ro rfl ?_ ?_))) (by rfl) ?_
    refine ri_ifnullQ C 32 dJ19_rotateLeft_21 rfl (fun h21 => ?_) (fun y21 h21 => ?_)
    · first | refine ri_aload_n C dJ19_rotateLeft_32 rfl ?_ | refine ri_aload_nQ C dJ19_rotateLeft_32 rfl ?_ | refine ri_aload_nN C dJ19_rotateLeft_32 rfl ?_
      first | refine ri_aload_n C dJ19_rotateLeft_33 rfl ?_ | refine ri_aload_nQ C dJ19_rotateLeft_33 rfl ?_ | refine ri_aload_nN C dJ19_rotateLeft_33 rfl ?_
      refine ri_getf C dJ19_rotateLeft_34 fr_q1089_19 (by first | assumption | (repeat (first | assumption | exact kx_rs (by assumption) | exact kx_ne2 (by omega) | exact kx_ne1 (by omega) | refine kx_ro (by assumption) ?_ ?_ | exact kx_rs rfl | refine kx_ro rfl ?_ ?_))) (by rfl) ?_
      refine ri_putf C dJ19_rotateLeft_37 fd_q1089_19 (fun h => nomatch h) (by first | assumption | (repeat (first | assumption | exact kx_rs (by assumption) | exact kx_ne2 (by omega) | exact kx_ne1 (by omega) | refine kx_ro (by assumption) ?_ ?_ | exact kx_rs rfl | refine kx_ro rfl ?_ ?_))) (Nat.le_of_ble_eq_true rfl) (by rfl) (by rfl) (by dsimp only [List.set] <;> rfl) (fun s37 e37 => ?_)
      first | refine ri_aload_n C dJ19_rotateLeft_40 rfl ?_ | refine ri_aload_nQ C dJ19_rotateLeft_40 rfl ?_ | refine ri_aload_nN C dJ19_rotateLeft_40 rfl ?_
      refine ri_getf C dJ19_rotateLeft_41 fr_q1089_19 (by first | assumption | (repeat (first | assumption | exact kx_rs (by assumption) | exact kx_ne2 (by omega) | exact kx_ne1 (by omega) | refine kx_ro (by assumption) ?_ ?_ | exact kx_rs rfl | refine kx_ro rfl ?_ ?_))) (by rfl) ?_
      refine ri_ifnonnull C 55 dJ19_rotateLeft_44 rfl ?_
      first | refine ri_aload_n C dJ19_rotateLeft_55 rfl ?_ | refine ri_aload_nQ C dJ19_rotateLeft_55 rfl ?_ | refine ri_aload_nN C dJ19_rotateLeft_55 rfl ?_
      refine ri_getf C dJ19_rotateLeft_56 fr_q1089_19 (by first | assumption | (repeat (first | assumption | exact kx_rs (by assumption) | exact kx_ne2 (by omega) | exact kx_ne1 (by omega) | refine kx_ro (by assumption) ?_ ?_ | exact kx_rs rfl | refine kx_ro rfl ?_ ?_))) (by rfl) ?_
      refine ri_getf C dJ19_rotateLeft_59 fr_q1086_19 (by first | assumption | (repeat (first | assumption | exact kx_rs (by assumption) | exact kx_ne2 (by omega) | exact kx_ne1 (by omega) | refine kx_ro (by assumption) ?_ ?_ | exact kx_rs rfl | refine kx_ro rfl ?_ ?_))) (by rfl) ?_
      first | refine ri_aload_n C dJ19_rotateLeft_62 rfl ?_ | refine ri_aload_nQ C dJ19_rotateLeft_62 rfl ?_ | refine ri_aload_nN C dJ19_rotateLeft_62 rfl ?_
      refine ri_acmp_neR C 77 dJ19_rotateLeft_63 rfl (fun h63 => ?_) (fun h63 => ?_)
      · exact absurd rfl h63 --dead
      · first | refine ri_aload_n C dJ19_rotateLeft_66 rfl ?_ | refine ri_aload_nQ C dJ19_rotateLeft_66 rfl ?_ | refine ri_aload_nN C dJ19_rotateLeft_66 rfl ?_
        refine ri_getf C dJ19_rotateLeft_67 fr_q1089_19 (by first | assumption | (repeat (first | assumption | exact kx_rs (by assumption) | exact kx_ne2 (by omega) | exact kx_ne1 (by omega) | refine kx_ro (by assumption) ?_ ?_ | exact kx_rs rfl | refine kx_ro rfl ?_ ?_))) (by rfl) ?_
        first | refine ri_aload_n C dJ19_rotateLeft_70 rfl ?_ | refine ri_aload_nQ C dJ19_rotateLeft_70 rfl ?_ | refine ri_aload_nN C dJ19_rotateLeft_70 rfl ?_
        refine ri_putf C dJ19_rotateLeft_71 fd_q1086_19 (fun h => nomatch h) (by first | assumption | (repeat (first | assumption | exact kx_rs (by assumption) | exact kx_ne2 (by omega) | exact kx_ne1 (by omega) | refine kx_ro (by assumption) ?_ ?_ | exact kx_rs rfl | refine kx_ro rfl ?_ ?_))) (Nat.le_of_ble_eq_true rfl) (by rfl) (by rfl) (by dsimp only [List.set] <;> rfl) (fun s71 e71 => ?_)
        refine ri_goto C 85 dJ19_rotateLeft_74 rfl ?_
        first | refine ri_aload_n C dJ19_rotateLeft_85 rfl ?_ | refine ri_aload_nQ C dJ19_rotateLeft_85 rfl ?_ | refine ri_aload_nN C dJ19_rotateLeft_85 rfl ?_
        first | refine ri_aload_n C dJ19_rotateLeft_86 rfl ?_ | refine ri_aload_nQ C dJ19_rotateLeft_86 rfl ?_ | refine ri_aload_nN C dJ19_rotateLeft_86 rfl ?_
        refine ri_putf C dJ19_rotateLeft_87 fd_q1086_19 (fun h => nomatch h) (by first | assumption | (repeat (first | assumption | exact kx_rs (by assumption) | exact kx_ne2 (by omega) | exact kx_ne1 (by omega) | refine kx_ro (by assumption) ?_ ?_ | exact kx_rs rfl | refine kx_ro rfl ?_ ?_))) (Nat.le_of_ble_eq_true rfl) (by rfl) (by rfl) (by dsimp only [List.set] <;> rfl) (fun s87 e87 => ?_)
        first | refine ri_aload_n C dJ19_rotateLeft_90 rfl ?_ | refine ri_aload_nQ C dJ19_rotateLeft_90 rfl ?_ | refine ri_aload_nN C dJ19_rotateLeft_90 rfl ?_
        first | refine ri_aload_n C dJ19_rotateLeft_91 rfl ?_ | refine ri_aload_nQ C dJ19_rotateLeft_91 rfl ?_ | refine ri_aload_nN C dJ19_rotateLeft_91 rfl ?_
        refine ri_putf C dJ19_rotateLeft_92 fd_q1089_19 (fun h => nomatch h) (by first | assumption | (repeat (first | assumption | exact kx_rs (by assumption) | exact kx_ne2 (by omega) | exact kx_ne1 (by omega) | refine kx_ro (by assumption) ?_ ?_ | exact kx_rs rfl | refine kx_ro rfl ?_ ?_))) (Nat.le_of_ble_eq_true rfl) (by rfl) (by rfl) (by dsimp only [List.set] <;> rfl) (fun s92 e92 => ?_)
        have FR : kx_Fr (tm_T ct L0) σ s92 := by
          repeat (first | exact kx_Fr.rf | refine kx_Fr.up2 ?_ (by assumption) ?_ | exact tm_T_m | exact tm_T_e inp | exact tm_T_e inr' | exact tm_T_e (inb _ (tt_r_in h21)) | exact tm_T_e (inu _ rfl))
        exact ri_vret C hQ dJ19_rotateLeft_95 (Nat.le_of_ble_eq_true rfl) (Nat.le_of_ble_eq_true rfl) ⟨rfl, ⟨by rw [tt_r_p _ _ _ (.branch pn ta (.branch rn tb td))]; exact (by first | assumption | (repeat (first | assumption | exact kx_rs (by assumption) | exact kx_ne2 (by omega) | exact kx_ne1 (by omega) | refine kx_ro (by assumption) ?_ ?_ | exact kx_rs rfl | refine kx_ro rfl ?_ ?_))), tt_rotL hnd hT (by first | assumption | (repeat (first | assumption | exact kx_rs (by assumption) | exact kx_ne2 (by omega) | exact kx_ne1 (by omega) | refine kx_ro (by assumption) ?_ ?_ | exact kx_rs rfl | refine kx_ro rfl ?_ ?_))) (by first | assumption | (repeat (first | assumption | exact kx_rs (by assumption) | exact kx_ne2 (by omega) | exact kx_ne1 (by omega) | refine kx_ro (by assumption) ?_ ?_ | exact kx_rs rfl | refine kx_ro rfl ?_ ?_))) (tm_3 hTb (by
            intro e l r hbe2
            first
              | (exfalso; rw [hbe2] at h21; cases h21; done)
              | (rw [hbe] at hbe2; cases hbe2; exact (by first | assumption | (repeat (first | assumption | exact kx_rs (by assumption) | exact kx_ne2 (by omega) | exact kx_ne1 (by omega) | refine kx_ro (by assumption) ?_ ?_ | exact kx_rs rfl | refine kx_ro rfl ?_ ?_)))))) (by first | assumption | (repeat (first | assumption | exact kx_rs (by assumption) | exact kx_ne2 (by omega) | exact kx_ne1 (by omega) | refine kx_ro (by assumption) ?_ ?_ | exact kx_rs rfl | refine kx_ro rfl ?_ ?_))) (by
            intro x h1 h2 h3 h4 l r q h
            try (have h3' : x ≠ y21 := fun z => h3 (by rw [h21, z]))
            try (have h4' : x ≠ qn := fun z => h4 (by rw [z]; rfl))
            repeat (first | exact h | refine kx_ro (by assumption) ?_ ?_ | exact kx_ne2 (by omega))), by rw [tt_i_rotL]; exact hnd, hD⟩, by rw [← hL0]; exact FR⟩
    · obtain ⟨b1, b2, hbe, he⟩ := tt_hd hTb h21
      have ny1 := hbp _ (tt_r_in h21)
      have ny2 := hbr _ (tt_r_in h21)
      try (have nyq2 : qn ≠ y21 := fun q => inB qn rfl (by subst q; simp [tt_i, tt_r_in h21]))
      first | refine ri_aload_n C dJ19_rotateLeft_24 rfl ?_ | refine ri_aload_nQ C dJ19_rotateLeft_24 rfl ?_ | refine ri_aload_nN C dJ19_rotateLeft_24 rfl ?_
      refine ri_getf C dJ19_rotateLeft_25 fr_q1086_19 (by first | assumption | (repeat (first | assumption | exact kx_rs (by assumption) | exact kx_ne2 (by omega) | exact kx_ne1 (by omega) | refine kx_ro (by assumption) ?_ ?_ | exact kx_rs rfl | refine kx_ro rfl ?_ ?_))) (by rfl) ?_
      rw [h21]
      first | refine ri_aload_n C dJ19_rotateLeft_28 rfl ?_ | refine ri_aload_nQ C dJ19_rotateLeft_28 rfl ?_ | refine ri_aload_nN C dJ19_rotateLeft_28 rfl ?_
      refine ri_putf C dJ19_rotateLeft_29 fd_q1089_19 (fun h => nomatch h) (by first | assumption | (repeat (first | assumption | exact kx_rs (by assumption) | exact kx_ne2 (by omega) | exact kx_ne1 (by omega) | refine kx_ro (by assumption) ?_ ?_ | exact kx_rs rfl | refine kx_ro rfl ?_ ?_))) (Nat.le_of_ble_eq_true rfl) (by rfl) (by rfl) (by dsimp only [List.set] <;> rfl) (fun s29 e29 => ?_)
      first | refine ri_aload_n C dJ19_rotateLeft_32 rfl ?_ | refine ri_aload_nQ C dJ19_rotateLeft_32 rfl ?_ | refine ri_aload_nN C dJ19_rotateLeft_32 rfl ?_
      first | refine ri_aload_n C dJ19_rotateLeft_33 rfl ?_ | refine ri_aload_nQ C dJ19_rotateLeft_33 rfl ?_ | refine ri_aload_nN C dJ19_rotateLeft_33 rfl ?_
      refine ri_getf C dJ19_rotateLeft_34 fr_q1089_19 (by first | assumption | (repeat (first | assumption | exact kx_rs (by assumption) | exact kx_ne2 (by omega) | exact kx_ne1 (by omega) | refine kx_ro (by assumption) ?_ ?_ | exact kx_rs rfl | refine kx_ro rfl ?_ ?_))) (by rfl) ?_
      refine ri_putf C dJ19_rotateLeft_37 fd_q1089_19 (fun h => nomatch h) (by first | assumption | (repeat (first | assumption | exact kx_rs (by assumption) | exact kx_ne2 (by omega) | exact kx_ne1 (by omega) | refine kx_ro (by assumption) ?_ ?_ | exact kx_rs rfl | refine kx_ro rfl ?_ ?_))) (Nat.le_of_ble_eq_true rfl) (by rfl) (by rfl) (by dsimp only [List.set] <;> rfl) (fun s37 e37 => ?_)
      first | refine ri_aload_n C dJ19_rotateLeft_40 rfl ?_ | refine ri_aload_nQ C dJ19_rotateLeft_40 rfl ?_ | refine ri_aload_nN C dJ19_rotateLeft_40 rfl ?_
      refine ri_getf C dJ19_rotateLeft_41 fr_q1089_19 (by first | assumption | (repeat (first | assumption | exact kx_rs (by assumption) | exact kx_ne2 (by omega) | exact kx_ne1 (by omega) | refine kx_ro (by assumption) ?_ ?_ | exact kx_rs rfl | refine kx_ro rfl ?_ ?_))) (by rfl) ?_
      refine ri_ifnonnull C 55 dJ19_rotateLeft_44 rfl ?_
      first | refine ri_aload_n C dJ19_rotateLeft_55 rfl ?_ | refine ri_aload_nQ C dJ19_rotateLeft_55 rfl ?_ | refine ri_aload_nN C dJ19_rotateLeft_55 rfl ?_
      refine ri_getf C dJ19_rotateLeft_56 fr_q1089_19 (by first | assumption | (repeat (first | assumption | exact kx_rs (by assumption) | exact kx_ne2 (by omega) | exact kx_ne1 (by omega) | refine kx_ro (by assumption) ?_ ?_ | exact kx_rs rfl | refine kx_ro rfl ?_ ?_))) (by rfl) ?_
      refine ri_getf C dJ19_rotateLeft_59 fr_q1086_19 (by first | assumption | (repeat (first | assumption | exact kx_rs (by assumption) | exact kx_ne2 (by omega) | exact kx_ne1 (by omega) | refine kx_ro (by assumption) ?_ ?_ | exact kx_rs rfl | refine kx_ro rfl ?_ ?_))) (by rfl) ?_
      first | refine ri_aload_n C dJ19_rotateLeft_62 rfl ?_ | refine ri_aload_nQ C dJ19_rotateLeft_62 rfl ?_ | refine ri_aload_nN C dJ19_rotateLeft_62 rfl ?_
      refine ri_acmp_neR C 77 dJ19_rotateLeft_63 rfl (fun h63 => ?_) (fun h63 => ?_)
      · exact absurd rfl h63 --dead
      · first | refine ri_aload_n C dJ19_rotateLeft_66 rfl ?_ | refine ri_aload_nQ C dJ19_rotateLeft_66 rfl ?_ | refine ri_aload_nN C dJ19_rotateLeft_66 rfl ?_
        refine ri_getf C dJ19_rotateLeft_67 fr_q1089_19 (by first | assumption | (repeat (first | assumption | exact kx_rs (by assumption) | exact kx_ne2 (by omega) | exact kx_ne1 (by omega) | refine kx_ro (by assumption) ?_ ?_ | exact kx_rs rfl | refine kx_ro rfl ?_ ?_))) (by rfl) ?_
        first | refine ri_aload_n C dJ19_rotateLeft_70 rfl ?_ | refine ri_aload_nQ C dJ19_rotateLeft_70 rfl ?_ | refine ri_aload_nN C dJ19_rotateLeft_70 rfl ?_
        refine ri_putf C dJ19_rotateLeft_71 fd_q1086_19 (fun h => nomatch h) (by first | assumption | (repeat (first | assumption | exact kx_rs (by assumption) | exact kx_ne2 (by omega) | exact kx_ne1 (by omega) | refine kx_ro (by assumption) ?_ ?_ | exact kx_rs rfl | refine kx_ro rfl ?_ ?_))) (Nat.le_of_ble_eq_true rfl) (by rfl) (by rfl) (by dsimp only [List.set] <;> rfl) (fun s71 e71 => ?_)
        refine ri_goto C 85 dJ19_rotateLeft_74 rfl ?_
        first | refine ri_aload_n C dJ19_rotateLeft_85 rfl ?_ | refine ri_aload_nQ C dJ19_rotateLeft_85 rfl ?_ | refine ri_aload_nN C dJ19_rotateLeft_85 rfl ?_
        first | refine ri_aload_n C dJ19_rotateLeft_86 rfl ?_ | refine ri_aload_nQ C dJ19_rotateLeft_86 rfl ?_ | refine ri_aload_nN C dJ19_rotateLeft_86 rfl ?_
        refine ri_putf C dJ19_rotateLeft_87 fd_q1086_19 (fun h => nomatch h) (by first | assumption | (repeat (first | assumption | exact kx_rs (by assumption) | exact kx_ne2 (by omega) | exact kx_ne1 (by omega) | refine kx_ro (by assumption) ?_ ?_ | exact kx_rs rfl | refine kx_ro rfl ?_ ?_))) (Nat.le_of_ble_eq_true rfl) (by rfl) (by rfl) (by dsimp only [List.set] <;> rfl) (fun s87 e87 => ?_)
        first | refine ri_aload_n C dJ19_rotateLeft_90 rfl ?_ | refine ri_aload_nQ C dJ19_rotateLeft_90 rfl ?_ | refine ri_aload_nN C dJ19_rotateLeft_90 rfl ?_
        first | refine ri_aload_n C dJ19_rotateLeft_91 rfl ?_ | refine ri_aload_nQ C dJ19_rotateLeft_91 rfl ?_ | refine ri_aload_nN C dJ19_rotateLeft_91 rfl ?_
        refine ri_putf C dJ19_rotateLeft_92 fd_q1089_19 (fun h => nomatch h) (by first | assumption | (repeat (first | assumption | exact kx_rs (by assumption) | exact kx_ne2 (by omega) | exact kx_ne1 (by omega) | refine kx_ro (by assumption) ?_ ?_ | exact kx_rs rfl | refine kx_ro rfl ?_ ?_))) (Nat.le_of_ble_eq_true rfl) (by rfl) (by rfl) (by dsimp only [List.set] <;> rfl) (fun s92 e92 => ?_)
        have FR : kx_Fr (tm_T ct L0) σ s92 := by
          repeat (first | exact kx_Fr.rf | refine kx_Fr.up2 ?_ (by assumption) ?_ | exact tm_T_m | exact tm_T_e inp | exact tm_T_e inr' | exact tm_T_e (inb _ (tt_r_in h21)) | exact tm_T_e (inu _ rfl))
        exact ri_vret C hQ dJ19_rotateLeft_95 (Nat.le_of_ble_eq_true rfl) (Nat.le_of_ble_eq_true rfl) ⟨rfl, ⟨by rw [tt_r_p _ _ _ (.branch pn ta (.branch rn tb td))]; exact (by first | assumption | (repeat (first | assumption | exact kx_rs (by assumption) | exact kx_ne2 (by omega) | exact kx_ne1 (by omega) | refine kx_ro (by assumption) ?_ ?_ | exact kx_rs rfl | refine kx_ro rfl ?_ ?_))), tt_rotL hnd hT (by first | assumption | (repeat (first | assumption | exact kx_rs (by assumption) | exact kx_ne2 (by omega) | exact kx_ne1 (by omega) | refine kx_ro (by assumption) ?_ ?_ | exact kx_rs rfl | refine kx_ro rfl ?_ ?_))) (by first | assumption | (repeat (first | assumption | exact kx_rs (by assumption) | exact kx_ne2 (by omega) | exact kx_ne1 (by omega) | refine kx_ro (by assumption) ?_ ?_ | exact kx_rs rfl | refine kx_ro rfl ?_ ?_))) (tm_3 hTb (by
            intro e l r hbe2
            first
              | (exfalso; rw [hbe2] at h21; cases h21; done)
              | (rw [hbe] at hbe2; cases hbe2; exact (by first | assumption | (repeat (first | assumption | exact kx_rs (by assumption) | exact kx_ne2 (by omega) | exact kx_ne1 (by omega) | refine kx_ro (by assumption) ?_ ?_ | exact kx_rs rfl | refine kx_ro rfl ?_ ?_)))))) (by first | assumption | (repeat (first | assumption | exact kx_rs (by assumption) | exact kx_ne2 (by omega) | exact kx_ne1 (by omega) | refine kx_ro (by assumption) ?_ ?_ | exact kx_rs rfl | refine kx_ro rfl ?_ ?_))) (by
            intro x h1 h2 h3 h4 l r q h
            try (have h3' : x ≠ y21 := fun z => h3 (by rw [h21, z]))
            try (have h4' : x ≠ qn := fun z => h4 (by rw [z]; rfl))
            repeat (first | exact h | refine kx_ro (by assumption) ?_ ?_ | exact kx_ne2 (by omega))), by rw [tt_i_rotL]; exact hnd, hD⟩, by rw [← hL0]; exact FR⟩
set_option maxHeartbeats 1000000 in
theorem mt_J19_rotateRight {l : Launch} {G : kx_G} (htr : l.stackTraces = false) {σ : kx_H} {ct mp pn rn : Nat} {K V : Nat → Nat} {D : Nat → Int32} {vals : Option Nat} {sz : Nat} {md : Int32} {Bx : tt_C} {ta tb td : tt_T} (h : tm_H σ ct mp (tt_p Bx (.branch pn (.branch rn td tb) ta)) K V D vals sz md) : kx_SP l G yJ19_rotateRight (ws_ yJ19_rotateRight cJ19_rotateRight 3 none) 1 0 0 [.ref mp, .ref pn] σ (fun v τ => v = none ∧ tm_H τ ct mp (tt_p Bx (.branch rn td (.branch pn tb ta))) K V D vals sz md ∧ kx_Fr (tm_T ct (tt_i (tt_p Bx (.branch pn (.branch rn td tb) ta)))) σ τ) kx_nx := by
  refine kx_body htr (by decide +kernel) (own := "java/util/TreeMap") (nm := "rotateRight") rfl rfl (Nat.le_of_ble_eq_true rfl) ?_
  intro p e s m args below meth c Q C hQ
  obtain ⟨hm, hT, hnd, hD⟩ := h
  obtain ⟨nd1, nd2, nd3⟩ := tt_nd hnd
  have hw := (tt_H_p Bx _).mp hT
  obtain ⟨⟨hp, ⟨hr, hTd, hTb⟩, hTa⟩, hK⟩ := hw
  obtain ⟨m2, m1, m4, m3, m5⟩ := tt_nb nd1
  obtain ⟨k2, k1, k4, k3, k5⟩ := tt_nb m2
  have hbp : ∀ x, x ∈ tt_i tb → x ≠ pn := fun x hx q => m4 (by subst q; simp [tt_i, hx])
  have hbr : ∀ x, x ∈ tt_i tb → x ≠ rn := fun x hx q => k3 (by subst q; exact hx)
  have npr : pn ≠ rn := fun q => m4 (by subst q; simp [tt_i])
  have inB : ∀ x, tt_u Bx = some x → x ∉ tt_i (.branch pn (.branch rn td tb) ta) := fun x hx q => nd3 x q (tt_u_in hx)
  have hr : σ (ct, 100 + rn) = some (rn, .inr (19, [.ref (K rn), .ref (V rn), va_rf (tt_r td), va_rf (tt_r tb), .ref pn, .int (D rn)])) := hr
  obtain ⟨L0, hL0⟩ : ∃ L0, L0 = tt_i (tt_p Bx (.branch pn (.branch rn td tb) ta)) := ⟨_, rfl⟩
  have inp : pn ∈ L0 := by rw [hL0, tt_i_p]; simp [tt_i]
  have inr' : rn ∈ L0 := by rw [hL0, tt_i_p]; simp [tt_i]
  have inb : ∀ x, x ∈ tt_i tb → x ∈ L0 := fun x hx => by rw [hL0, tt_i_p]; simp [tt_i, hx]
  have inu : ∀ x, tt_u Bx = some x → x ∈ L0 := fun x hx => by rw [hL0, tt_i_p]; have g := tt_ic_m.mp (tt_u_in hx); rcases g with g | g <;> simp [g]
  rcases Bx with _ | ⟨⟨_ | _, qn, ts⟩, Bx⟩
  · have hp : σ (ct, 100 + pn) = some (pn, .inr (19, [.ref (K pn), .ref (V pn), .ref rn, va_rf (tt_r ta), .null, .int (D pn)])) := hp
    first | refine ri_aload_n C dJ19_rotateRight_0 rfl ?_ | refine ri_aload_nQ C dJ19_rotateRight_0 rfl ?_ | refine ri_aload_nN C dJ19_rotateRight_0 rfl ?_
    refine ri_ifnull C dJ19_rotateRight_1 ?_
    first | refine ri_aload_n C dJ19_rotateRight_4 rfl ?_ | refine ri_aload_nQ C dJ19_rotateRight_4 rfl ?_ | refine ri_aload_nN C dJ19_rotateRight_4 rfl ?_
    refine ri_getf C dJ19_rotateRight_5 fr_q1086_19 (by first | assumption | (repeat (first | assumption | exact kx_rs (by assumption) | exact kx_ne2 (by omega) | exact kx_ne1 (by omega) | refine kx_ro (by assumption) ?_ ?_ | exact kx_rs rfl | refine kx_ro rfl ?_ ?_))) (by rfl) ?_
    first | refine ri_astore_n C dJ19_rotateRight_8 rfl (by decide) ?_ | refine ri_astore_nQ C dJ19_rotateRight_8 rfl (by decide) ?_ | refine ri_astore_nN C dJ19_rotateRight_8 rfl (by decide) ?_
    first | refine ri_aload_n C dJ19_rotateRight_9 rfl ?_ | refine ri_aload_nQ C dJ19_rotateRight_9 rfl ?_ | refine ri_aload_nN C dJ19_rotateRight_9 rfl ?_
    first | refine ri_aload_n C dJ19_rotateRight_10 rfl ?_ | refine ri_aload_nQ C dJ19_rotateRight_10 rfl ?_ | refine ri_aload_nN C dJ19_rotateRight_10 rfl ?_
    refine ri_getf C dJ19_rotateRight_11 fr_q1087_19 (by first | assumption | (repeat (first | assumption | exact kx_rs (by assumption) | exact kx_ne2 (by omega) | exact kx_ne1 (by omega) | refine kx_ro (by assumption) ?_ ?_ | exact kx_rs rfl | refine kx_ro rfl ?_ ?_))) (by rfl) ?_
    refine ri_putf C dJ19_rotateRight_14 fd_q1086_19 (fun h => nomatch h) (by first | assumption | (repeat (first | assumption | exact kx_rs (by assumption) | exact kx_ne2 (by omega) | exact kx_ne1 (by omega) | refine kx_ro (by assumption) ?_ ?_ | exact kx_rs rfl | refine kx_ro rfl ?_ ?_))) (Nat.le_of_ble_eq_true rfl) kx_nrf kx_frf (by dsimp only [List.set] <;> rfl) (fun s14 e14 => ?_)
    first | refine ri_aload_n C dJ19_rotateRight_17 rfl ?_ | refine ri_aload_nQ C dJ19_rotateRight_17 rfl ?_ | refine ri_aload_nN C dJ19_rotateRight_17 rfl ?_
    refine ri_getf C dJ19_rotateRight_18 fr_q1087_19 (by first | assumption | (repeat (first | assumption | exact kx_rs (by assumption) | exact kx_ne2 (by omega) | exact kx_ne1 (by omega) | refine kx_ro (by assumption) ?_ ?_ | exact kx_rs rfl | refine kx_ro rfl ?_ ?_))) (by rfl) ?_
    refine ri_ifnullQ C 32 dJ19_rotateRight_21 rfl (fun h21 => ?_) (fun y21 h21 => ?_)
    · first | refine ri_aload_n C dJ19_rotateRight_32 rfl ?_ | refine ri_aload_nQ C dJ19_rotateRight_32 rfl ?_ | refine ri_aload_nN C dJ19_rotateRight_32 rfl ?_
      first | refine ri_aload_n C dJ19_rotateRight_33 rfl ?_ | refine ri_aload_nQ C dJ19_rotateRight_33 rfl ?_ | refine ri_aload_nN C dJ19_rotateRight_33 rfl ?_
      refine ri_getf C dJ19_rotateRight_34 fr_q1089_19 (by first | assumption | (repeat (first | assumption | exact kx_rs (by assumption) | exact kx_ne2 (by omega) | exact kx_ne1 (by omega) | refine kx_ro (by assumption) ?_ ?_ | exact kx_rs rfl | refine kx_ro rfl ?_ ?_))) (by rfl) ?_
      refine ri_putf C dJ19_rotateRight_37 fd_q1089_19 (fun h => nomatch h) (by first | assumption | (repeat (first | assumption | exact kx_rs (by assumption) | exact kx_ne2 (by omega) | exact kx_ne1 (by omega) | refine kx_ro (by assumption) ?_ ?_ | exact kx_rs rfl | refine kx_ro rfl ?_ ?_))) (Nat.le_of_ble_eq_true rfl) (by rfl) (by rfl) (by dsimp only [List.set] <;> rfl) (fun s37 e37 => ?_)
      first | refine ri_aload_n C dJ19_rotateRight_40 rfl ?_ | refine ri_aload_nQ C dJ19_rotateRight_40 rfl ?_ | refine ri_aload_nN C dJ19_rotateRight_40 rfl ?_
      refine ri_getf C dJ19_rotateRight_41 fr_q1089_19 (by first | assumption | (repeat (first | assumption | exact kx_rs (by assumption) | exact kx_ne2 (by omega) | exact kx_ne1 (by omega) | refine kx_ro (by assumption) ?_ ?_ | exact kx_rs rfl | refine kx_ro rfl ?_ ?_))) (by rfl) ?_
      refine ri_ifnonnullN C dJ19_rotateRight_44 ?_
      first | refine ri_aload_n C dJ19_rotateRight_47 rfl ?_ | refine ri_aload_nQ C dJ19_rotateRight_47 rfl ?_ | refine ri_aload_nN C dJ19_rotateRight_47 rfl ?_
      first | refine ri_aload_n C dJ19_rotateRight_48 rfl ?_ | refine ri_aload_nQ C dJ19_rotateRight_48 rfl ?_ | refine ri_aload_nN C dJ19_rotateRight_48 rfl ?_
      refine ri_putf C dJ19_rotateRight_49 fd_q577_18 (fun h => nomatch h) (by first | assumption | (repeat (first | assumption | exact kx_rs (by assumption) | exact kx_ne2 (by omega) | exact kx_ne1 (by omega) | refine kx_ro (by assumption) ?_ ?_ | exact kx_rs rfl | refine kx_ro rfl ?_ ?_))) (Nat.le_of_ble_eq_true rfl) (by rfl) (by rfl) (by dsimp only [List.set] <;> rfl) (fun s49 e49 => ?_)
      refine ri_goto C 85 dJ19_rotateRight_52 rfl ?_
      first | refine ri_aload_n C dJ19_rotateRight_85 rfl ?_ | refine ri_aload_nQ C dJ19_rotateRight_85 rfl ?_ | refine ri_aload_nN C dJ19_rotateRight_85 rfl ?_
      first | refine ri_aload_n C dJ19_rotateRight_86 rfl ?_ | refine ri_aload_nQ C dJ19_rotateRight_86 rfl ?_ | refine ri_aload_nN C dJ19_rotateRight_86 rfl ?_
      refine ri_putf C dJ19_rotateRight_87 fd_q1087_19 (fun h => nomatch h) (by first | assumption | (repeat (first | assumption | exact kx_rs (by assumption) | exact kx_ne2 (by omega) | exact kx_ne1 (by omega) | refine kx_ro (by assumption) ?_ ?_ | exact kx_rs rfl | refine kx_ro rfl ?_ ?_))) (Nat.le_of_ble_eq_true rfl) (by rfl) (by rfl) (by dsimp only [List.set] <;> rfl) (fun s87 e87 => ?_)
      first | refine ri_aload_n C dJ19_rotateRight_90 rfl ?_ | refine ri_aload_nQ C dJ19_rotateRight_90 rfl ?_ | refine ri_aload_nN C dJ19_rotateRight_90 rfl ?_
      first | refine ri_aload_n C dJ19_rotateRight_91 rfl ?_ | refine ri_aload_nQ C dJ19_rotateRight_91 rfl ?_ | refine ri_aload_nN C dJ19_rotateRight_91 rfl ?_
      refine ri_putf C dJ19_rotateRight_92 fd_q1089_19 (fun h => nomatch h) (by first | assumption | (repeat (first | assumption | exact kx_rs (by assumption) | exact kx_ne2 (by omega) | exact kx_ne1 (by omega) | refine kx_ro (by assumption) ?_ ?_ | exact kx_rs rfl | refine kx_ro rfl ?_ ?_))) (Nat.le_of_ble_eq_true rfl) (by rfl) (by rfl) (by dsimp only [List.set] <;> rfl) (fun s92 e92 => ?_)
      have FR : kx_Fr (tm_T ct L0) σ s92 := by
        repeat (first | exact kx_Fr.rf | refine kx_Fr.up2 ?_ (by assumption) ?_ | exact tm_T_m | exact tm_T_e inp | exact tm_T_e inr' | exact tm_T_e (inb _ (tt_r_in h21)) | exact tm_T_e (inu _ rfl))
      exact ri_vret C hQ dJ19_rotateRight_95 (Nat.le_of_ble_eq_true rfl) (Nat.le_of_ble_eq_true rfl) ⟨rfl, ⟨(by first | assumption | (repeat (first | assumption | exact kx_rs (by assumption) | exact kx_ne2 (by omega) | exact kx_ne1 (by omega) | refine kx_ro (by assumption) ?_ ?_ | exact kx_rs rfl | refine kx_ro rfl ?_ ?_))), tt_rotR hnd hT (by first | assumption | (repeat (first | assumption | exact kx_rs (by assumption) | exact kx_ne2 (by omega) | exact kx_ne1 (by omega) | refine kx_ro (by assumption) ?_ ?_ | exact kx_rs rfl | refine kx_ro rfl ?_ ?_))) (by first | assumption | (repeat (first | assumption | exact kx_rs (by assumption) | exact kx_ne2 (by omega) | exact kx_ne1 (by omega) | refine kx_ro (by assumption) ?_ ?_ | exact kx_rs rfl | refine kx_ro rfl ?_ ?_))) (tm_3 hTb (by
          intro e l r hbe2
          first
            | (exfalso; rw [hbe2] at h21; cases h21; done)
            | (rw [hbe] at hbe2; cases hbe2; exact (by first | assumption | (repeat (first | assumption | exact kx_rs (by assumption) | exact kx_ne2 (by omega) | exact kx_ne1 (by omega) | refine kx_ro (by assumption) ?_ ?_ | exact kx_rs rfl | refine kx_ro rfl ?_ ?_)))))) trivial (by
          intro x h1 h2 h3 h4 l r q h
          try (have h3' : x ≠ y21 := fun z => h3 (by rw [h21, z]))
          try (have h4' : x ≠ qn := fun z => h4 (by rw [z]; rfl))
          repeat (first | exact h | refine kx_ro (by assumption) ?_ ?_ | exact kx_ne2 (by omega))), by rw [← tt_i_rotL]; exact hnd, hD⟩, by rw [← hL0]; exact FR⟩
    · obtain ⟨b1, b2, hbe, he⟩ := tt_hd hTb h21
      have ny1 := hbp _ (tt_r_in h21)
      have ny2 := hbr _ (tt_r_in h21)
      try (have nyq2 : qn ≠ y21 := fun q => inB qn rfl (by subst q; simp [tt_i, tt_r_in h21]))
      first | refine ri_aload_n C dJ19_rotateRight_24 rfl ?_ | refine ri_aload_nQ C dJ19_rotateRight_24 rfl ?_ | refine ri_aload_nN C dJ19_rotateRight_24 rfl ?_
      refine ri_getf C dJ19_rotateRight_25 fr_q1087_19 (by first | assumption | (repeat (first | assumption | exact kx_rs (by assumption) | exact kx_ne2 (by omega) | exact kx_ne1 (by omega) | refine kx_ro (by assumption) ?_ ?_ | exact kx_rs rfl | refine kx_ro rfl ?_ ?_))) (by rfl) ?_
      rw [h21]
      first | refine ri_aload_n C dJ19_rotateRight_28 rfl ?_ | refine ri_aload_nQ C dJ19_rotateRight_28 rfl ?_ | refine ri_aload_nN C dJ19_rotateRight_28 rfl ?_
      refine ri_putf C dJ19_rotateRight_29 fd_q1089_19 (fun h => nomatch h) (by first | assumption | (repeat (first | assumption | exact kx_rs (by assumption) | exact kx_ne2 (by omega) | exact kx_ne1 (by omega) | refine kx_ro (by assumption) ?_ ?_ | exact kx_rs rfl | refine kx_ro rfl ?_ ?_))) (Nat.le_of_ble_eq_true rfl) (by rfl) (by rfl) (by dsimp only [List.set] <;> rfl) (fun s29 e29 => ?_)
      first | refine ri_aload_n C dJ19_rotateRight_32 rfl ?_ | refine ri_aload_nQ C dJ19_rotateRight_32 rfl ?_ | refine ri_aload_nN C dJ19_rotateRight_32 rfl ?_
      first | refine ri_aload_n C dJ19_rotateRight_33 rfl ?_ | refine ri_aload_nQ C dJ19_rotateRight_33 rfl ?_ | refine ri_aload_nN C dJ19_rotateRight_33 rfl ?_
      refine ri_getf C dJ19_rotateRight_34 fr_q1089_19 (by first | assumption | (repeat (first | assumption | exact kx_rs (by assumption) | exact kx_ne2 (by omega) | exact kx_ne1 (by omega) | refine kx_ro (by assumption) ?_ ?_ | exact kx_rs rfl | refine kx_ro rfl ?_ ?_))) (by rfl) ?_
      refine ri_putf C dJ19_rotateRight_37 fd_q1089_19 (fun h => nomatch h) (by first | assumption | (repeat (first | assumption | exact kx_rs (by assumption) | exact kx_ne2 (by omega) | exact kx_ne1 (by omega) | refine kx_ro (by assumption) ?_ ?_ | exact kx_rs rfl | refine kx_ro rfl ?_ ?_))) (Nat.le_of_ble_eq_true rfl) (by rfl) (by rfl) (by dsimp only [List.set] <;> rfl) (fun s37 e37 => ?_)
      first | refine ri_aload_n C dJ19_rotateRight_40 rfl ?_ | refine ri_aload_nQ C dJ19_rotateRight_40 rfl ?_ | refine ri_aload_nN C dJ19_rotateRight_40 rfl ?_
      refine ri_getf C dJ19_rotateRight_41 fr_q1089_19 (by first | assumption | (repeat (first | assumption | exact kx_rs (by assumption) | exact kx_ne2 (by omega) | exact kx_ne1 (by omega) | refine kx_ro (by assumption) ?_ ?_ | exact kx_rs rfl | refine kx_ro rfl ?_ ?_))) (by rfl) ?_
      refine ri_ifnonnullN C dJ19_rotateRight_44 ?_
      first | refine ri_aload_n C dJ19_rotateRight_47 rfl ?_ | refine ri_aload_nQ C dJ19_rotateRight_47 rfl ?_ | refine ri_aload_nN C dJ19_rotateRight_47 rfl ?_
      first | refine ri_aload_n C dJ19_rotateRight_48 rfl ?_ | refine ri_aload_nQ C dJ19_rotateRight_48 rfl ?_ | refine ri_aload_nN C dJ19_rotateRight_48 rfl ?_
      refine ri_putf C dJ19_rotateRight_49 fd_q577_18 (fun h => nomatch h) (by first | assumption | (repeat (first | assumption | exact kx_rs (by assumption) | exact kx_ne2 (by omega) | exact kx_ne1 (by omega) | refine kx_ro (by assumption) ?_ ?_ | exact kx_rs rfl | refine kx_ro rfl ?_ ?_))) (Nat.le_of_ble_eq_true rfl) (by rfl) (by rfl) (by dsimp only [List.set] <;> rfl) (fun s49 e49 => ?_)
      refine ri_goto C 85 dJ19_rotateRight_52 rfl ?_
      first | refine ri_aload_n C dJ19_rotateRight_85 rfl ?_ | refine ri_aload_nQ C dJ19_rotateRight_85 rfl ?_ | refine ri_aload_nN C dJ19_rotateRight_85 rfl ?_
      first | refine ri_aload_n C dJ19_rotateRight_86 rfl ?_ | refine ri_aload_nQ C dJ19_rotateRight_86 rfl ?_ | refine ri_aload_nN C dJ19_rotateRight_86 rfl ?_
      refine ri_putf C dJ19_rotateRight_87 fd_q1087_19 (fun h => nomatch h) (by first | assumption | (repeat (first | assumption | exact kx_rs (by assumption) | exact kx_ne2 (by omega) | exact kx_ne1 (by omega) | refine kx_ro (by assumption) ?_ ?_ | exact kx_rs rfl | refine kx_ro rfl ?_ ?_))) (Nat.le_of_ble_eq_true rfl) (by rfl) (by rfl) (by dsimp only [List.set] <;> rfl) (fun s87 e87 => ?_)
      first | refine ri_aload_n C dJ19_rotateRight_90 rfl ?_ | refine ri_aload_nQ C dJ19_rotateRight_90 rfl ?_ | refine ri_aload_nN C dJ19_rotateRight_90 rfl ?_
      first | refine ri_aload_n C dJ19_rotateRight_91 rfl ?_ | refine ri_aload_nQ C dJ19_rotateRight_91 rfl ?_ | refine ri_aload_nN C dJ19_rotateRight_91 rfl ?_
      refine ri_putf C dJ19_rotateRight_92 fd_q1089_19 (fun h => nomatch h) (by first | assumption | (repeat (first | assumption | exact kx_rs (by assumption) | exact kx_ne2 (by omega) | exact kx_ne1 (by omega) | refine kx_ro (by assumption) ?_ ?_ | exact kx_rs rfl | refine kx_ro rfl ?_ ?_))) (Nat.le_of_ble_eq_true rfl) (by rfl) (by rfl) (by dsimp only [List.set] <;> rfl) (fun s92 e92 => ?_)
      have FR : kx_Fr (tm_T ct L0) σ s92 := by
        repeat (first | exact kx_Fr.rf | refine kx_Fr.up2 ?_ (by assumption) ?_ | exact tm_T_m | exact tm_T_e inp | exact tm_T_e inr' | exact tm_T_e (inb _ (tt_r_in h21)) | exact tm_T_e (inu _ rfl))
      exact ri_vret C hQ dJ19_rotateRight_95 (Nat.le_of_ble_eq_true rfl) (Nat.le_of_ble_eq_true rfl) ⟨rfl, ⟨(by first | assumption | (repeat (first | assumption | exact kx_rs (by assumption) | exact kx_ne2 (by omega) | exact kx_ne1 (by omega) | refine kx_ro (by assumption) ?_ ?_ | exact kx_rs rfl | refine kx_ro rfl ?_ ?_))), tt_rotR hnd hT (by first | assumption | (repeat (first | assumption | exact kx_rs (by assumption) | exact kx_ne2 (by omega) | exact kx_ne1 (by omega) | refine kx_ro (by assumption) ?_ ?_ | exact kx_rs rfl | refine kx_ro rfl ?_ ?_))) (by first | assumption | (repeat (first | assumption | exact kx_rs (by assumption) | exact kx_ne2 (by omega) | exact kx_ne1 (by omega) | refine kx_ro (by assumption) ?_ ?_ | exact kx_rs rfl | refine kx_ro rfl ?_ ?_))) (tm_3 hTb (by
          intro e l r hbe2
          first
            | (exfalso; rw [hbe2] at h21; cases h21; done)
            | (rw [hbe] at hbe2; cases hbe2; exact (by first | assumption | (repeat (first | assumption | exact kx_rs (by assumption) | exact kx_ne2 (by omega) | exact kx_ne1 (by omega) | refine kx_ro (by assumption) ?_ ?_ | exact kx_rs rfl | refine kx_ro rfl ?_ ?_)))))) trivial (by
          intro x h1 h2 h3 h4 l r q h
          try (have h3' : x ≠ y21 := fun z => h3 (by rw [h21, z]))
          try (have h4' : x ≠ qn := fun z => h4 (by rw [z]; rfl))
          repeat (first | exact h | refine kx_ro (by assumption) ?_ ?_ | exact kx_ne2 (by omega))), by rw [← tt_i_rotL]; exact hnd, hD⟩, by rw [← hL0]; exact FR⟩
  · have hq : σ (ct, 100 + qn) = some (qn, .inr (19, [.ref (K qn), .ref (V qn), va_rf (tt_r ts), .ref pn, va_rf (tt_u Bx), .int (D qn)])) := hK.1
    have nqp : qn ≠ pn := fun q => inB qn rfl (by subst q; simp [tt_i])
    have nqr : qn ≠ rn := fun q => inB qn rfl (by subst q; simp [tt_i])
    have hts : tt_r ts ≠ some pn := fun q => nd3 pn (by simp [tt_i]) (by simp [tt_ic, tt_r_in q])
    have hp : σ (ct, 100 + pn) = some (pn, .inr (19, [.ref (K pn), .ref (V pn), .ref rn, va_rf (tt_r ta), .ref qn, .int (D pn)])) := hp
    first | refine ri_aload_n C dJ19_rotateRight_0 rfl ?_ | refine ri_aload_nQ C dJ19_rotateRight_0 rfl ?_ | refine ri_aload_nN C dJ19_rotateRight_0 rfl ?_
    refine ri_ifnull C dJ19_rotateRight_1 ?_
    first | refine ri_aload_n C dJ19_rotateRight_4 rfl ?_ | refine ri_aload_nQ C dJ19_rotateRight_4 rfl ?_ | refine ri_aload_nN C dJ19_rotateRight_4 rfl ?_
    refine ri_getf C dJ19_rotateRight_5 fr_q1086_19 (by first | assumption | (repeat (first | assumption | exact kx_rs (by assumption) | exact kx_ne2 (by omega) | exact kx_ne1 (by omega) | refine kx_ro (by assumption) ?_ ?_ | exact kx_rs rfl | refine kx_ro rfl ?_ ?_))) (by rfl) ?_
    first | refine ri_astore_n C dJ19_rotateRight_8 rfl (by decide) ?_ | refine ri_astore_nQ C dJ19_rotateRight_8 rfl (by decide) ?_ | refine ri_astore_nN C dJ19_rotateRight_8 rfl (by decide) ?_
    first | refine ri_aload_n C dJ19_rotateRight_9 rfl ?_ | refine ri_aload_nQ C dJ19_rotateRight_9 rfl ?_ | refine ri_aload_nN C dJ19_rotateRight_9 rfl ?_
    first | refine ri_aload_n C dJ19_rotateRight_10 rfl ?_ | refine ri_aload_nQ C dJ19_rotateRight_10 rfl ?_ | refine ri_aload_nN C dJ19_rotateRight_10 rfl ?_
    refine ri_getf C dJ19_rotateRight_11 fr_q1087_19 (by first | assumption | (repeat (first | assumption | exact kx_rs (by assumption) | exact kx_ne2 (by omega) | exact kx_ne1 (by omega) | refine kx_ro (by assumption) ?_ ?_ | exact kx_rs rfl | refine kx_ro rfl ?_ ?_))) (by rfl) ?_
    refine ri_putf C dJ19_rotateRight_14 fd_q1086_19 (fun h => nomatch h) (by first | assumption | (repeat (first | assumption | exact kx_rs (by assumption) | exact kx_ne2 (by omega) | exact kx_ne1 (by omega) | refine kx_ro (by assumption) ?_ ?_ | exact kx_rs rfl | refine kx_ro rfl ?_ ?_))) (Nat.le_of_ble_eq_true rfl) kx_nrf kx_frf (by dsimp only [List.set] <;> rfl) (fun s14 e14 => ?_)
    first | refine ri_aload_n C dJ19_rotateRight_17 rfl ?_ | refine ri_aload_nQ C dJ19_rotateRight_17 rfl ?_ | refine ri_aload_nN C dJ19_rotateRight_17 rfl ?_
    refine ri_getf C dJ19_rotateRight_18 fr_q1087_19 (by first | assumption | (repeat (first | assumption | exact kx_rs (by assumption) | exact kx_ne2 (by omega) | exact kx_ne1 (by omega) | refine kx_ro (by assumption) ?_ ?_ | exact kx_rs rfl | refine kx_ro rfl ?_ ?_))) (by rfl) ?_
    refine ri_ifnullQ C 32 dJ19_rotateRight_21 rfl (fun h21 => ?_) (fun y21 h21 => ?_)
    · first | refine ri_aload_n C dJ19_rotateRight_32 rfl ?_ | refine ri_aload_nQ C dJ19_rotateRight_32 rfl ?_ | refine ri_aload_nN C dJ19_rotateRight_32 rfl ?_
      first | refine ri_aload_n C dJ19_rotateRight_33 rfl ?_ | refine ri_aload_nQ C dJ19_rotateRight_33 rfl ?_ | refine ri_aload_nN C dJ19_rotateRight_33 rfl ?_
      refine ri_getf C dJ19_rotateRight_34 fr_q1089_19 (by first | assumption | (repeat (first | assumption | exact kx_rs (by assumption) | exact kx_ne2 (by omega) | exact kx_ne1 (by omega) | refine kx_ro (by assumption) ?_ ?_ | exact kx_rs rfl | refine kx_ro rfl ?_ ?_))) (by rfl) ?_
      refine ri_putf C dJ19_rotateRight_37 fd_q1089_19 (fun h => nomatch h) (by first | assumption | (repeat (first | assumption | exact kx_rs (by assumption) | exact kx_ne2 (by omega) | exact kx_ne1 (by omega) | refine kx_ro (by assumption) ?_ ?_ | exact kx_rs rfl | refine kx_ro rfl ?_ ?_))) (Nat.le_of_ble_eq_true rfl) (by rfl) (by rfl) (by dsimp only [List.set] <;> rfl) (fun s37 e37 => ?_)
      first | refine ri_aload_n C dJ19_rotateRight_40 rfl ?_ | refine ri_aload_nQ C dJ19_rotateRight_40 rfl ?_ | refine ri_aload_nN C dJ19_rotateRight_40 rfl ?_
      refine ri_getf C dJ19_rotateRight_41 fr_q1089_19 (by first | assumption | (repeat (first | assumption | exact kx_rs (by assumption) | exact kx_ne2 (by omega) | exact kx_ne1 (by omega) | refine kx_ro (by assumption) ?_ ?_ | exact kx_rs rfl | refine kx_ro rfl ?_ ?_))) (by rfl) ?_
      refine ri_ifnonnull C 55 dJ19_rotateRight_44 rfl ?_
      first | refine ri_aload_n C dJ19_rotateRight_55 rfl ?_ | refine ri_aload_nQ C dJ19_rotateRight_55 rfl ?_ | refine ri_aload_nN C dJ19_rotateRight_55 rfl ?_
      refine ri_getf C dJ19_rotateRight_56 fr_q1089_19 (by first | assumption | (repeat (first | assumption | exact kx_rs (by assumption) | exact kx_ne2 (by omega) | exact kx_ne1 (by omega) | refine kx_ro (by assumption) ?_ ?_ | exact kx_rs rfl | refine kx_ro rfl ?_ ?_))) (by rfl) ?_
      refine ri_getf C dJ19_rotateRight_59 fr_q1087_19 (by first | assumption | (repeat (first | assumption | exact kx_rs (by assumption) | exact kx_ne2 (by omega) | exact kx_ne1 (by omega) | refine kx_ro (by assumption) ?_ ?_ | exact kx_rs rfl | refine kx_ro rfl ?_ ?_))) (by rfl) ?_
      first | refine ri_aload_n C dJ19_rotateRight_62 rfl ?_ | refine ri_aload_nQ C dJ19_rotateRight_62 rfl ?_ | refine ri_aload_nN C dJ19_rotateRight_62 rfl ?_
      refine ri_acmp_neR C 77 dJ19_rotateRight_63 rfl (fun h63 => ?_) (fun h63 => ?_)
      · exact absurd rfl h63 --dead
      · first | refine ri_aload_n C dJ19_rotateRight_66 rfl ?_ | refine ri_aload_nQ C dJ19_rotateRight_66 rfl ?_ | refine ri_aload_nN C dJ19_rotateRight_66 rfl ?_
        refine ri_getf C dJ19_rotateRight_67 fr_q1089_19 (by first | assumption | (repeat (first | assumption | exact kx_rs (by assumption) | exact kx_ne2 (by omega) | exact kx_ne1 (by omega) | refine kx_ro (by assumption) ?_ ?_ | exact kx_rs rfl | refine kx_ro rfl ?_ ?_))) (by rfl) ?_
        first | refine ri_aload_n C dJ19_rotateRight_70 rfl ?_ | refine ri_aload_nQ C dJ19_rotateRight_70 rfl ?_ | refine ri_aload_nN C dJ19_rotateRight_70 rfl ?_
        refine ri_putf C dJ19_rotateRight_71 fd_q1087_19 (fun h => nomatch h) (by first | assumption | (repeat (first | assumption | exact kx_rs (by assumption) | exact kx_ne2 (by omega) | exact kx_ne1 (by omega) | refine kx_ro (by assumption) ?_ ?_ | exact kx_rs rfl | refine kx_ro rfl ?_ ?_))) (Nat.le_of_ble_eq_true rfl) (by rfl) (by rfl) (by dsimp only [List.set] <;> rfl) (fun s71 e71 => ?_)
        refine ri_goto C 85 dJ19_rotateRight_74 rfl ?_
        first | refine ri_aload_n C dJ19_rotateRight_85 rfl ?_ | refine ri_aload_nQ C dJ19_rotateRight_85 rfl ?_ | refine ri_aload_nN C dJ19_rotateRight_85 rfl ?_
        first | refine ri_aload_n C dJ19_rotateRight_86 rfl ?_ | refine ri_aload_nQ C dJ19_rotateRight_86 rfl ?_ | refine ri_aload_nN C dJ19_rotateRight_86 rfl ?_
        refine ri_putf C dJ19_rotateRight_87 fd_q1087_19 (fun h => nomatch h) (by first | assumption | (repeat (first | assumption | exact kx_rs (by assumption) | exact kx_ne2 (by omega) | exact kx_ne1 (by omega) | refine kx_ro (by assumption) ?_ ?_ | exact kx_rs rfl | refine kx_ro rfl ?_ ?_))) (Nat.le_of_ble_eq_true rfl) (by rfl) (by rfl) (by dsimp only [List.set] <;> rfl) (fun s87 e87 => ?_)
        first | refine ri_aload_n C dJ19_rotateRight_90 rfl ?_ | refine ri_aload_nQ C dJ19_rotateRight_90 rfl ?_ | refine ri_aload_nN C dJ19_rotateRight_90 rfl ?_
        first | refine ri_aload_n C dJ19_rotateRight_91 rfl ?_ | refine ri_aload_nQ C dJ19_rotateRight_91 rfl ?_ | refine ri_aload_nN C dJ19_rotateRight_91 rfl ?_
        refine ri_putf C dJ19_rotateRight_92 fd_q1089_19 (fun h => nomatch h) (by first | assumption | (repeat (first | assumption | exact kx_rs (by assumption) | exact kx_ne2 (by omega) | exact kx_ne1 (by omega) | refine kx_ro (by assumption) ?_ ?_ | exact kx_rs rfl | refine kx_ro rfl ?_ ?_))) (Nat.le_of_ble_eq_true rfl) (by rfl) (by rfl) (by dsimp only [List.set] <;> rfl) (fun s92 e92 => ?_)
        have FR : kx_Fr (tm_T ct L0) σ s92 := by
          repeat (first | exact kx_Fr.rf | refine kx_Fr.up2 ?_ (by assumption) ?_ | exact tm_T_m | exact tm_T_e inp | exact tm_T_e inr' | exact tm_T_e (inb _ (tt_r_in h21)) | exact tm_T_e (inu _ rfl))
        exact ri_vret C hQ dJ19_rotateRight_95 (Nat.le_of_ble_eq_true rfl) (Nat.le_of_ble_eq_true rfl) ⟨rfl, ⟨by rw [tt_r_p _ _ _ (.branch pn (.branch rn td tb) ta)]; exact (by first | assumption | (repeat (first | assumption | exact kx_rs (by assumption) | exact kx_ne2 (by omega) | exact kx_ne1 (by omega) | refine kx_ro (by assumption) ?_ ?_ | exact kx_rs rfl | refine kx_ro rfl ?_ ?_))), tt_rotR hnd hT (by first | assumption | (repeat (first | assumption | exact kx_rs (by assumption) | exact kx_ne2 (by omega) | exact kx_ne1 (by omega) | refine kx_ro (by assumption) ?_ ?_ | exact kx_rs rfl | refine kx_ro rfl ?_ ?_))) (by first | assumption | (repeat (first | assumption | exact kx_rs (by assumption) | exact kx_ne2 (by omega) | exact kx_ne1 (by omega) | refine kx_ro (by assumption) ?_ ?_ | exact kx_rs rfl | refine kx_ro rfl ?_ ?_))) (tm_3 hTb (by
            intro e l r hbe2
            first
              | (exfalso; rw [hbe2] at h21; cases h21; done)
              | (rw [hbe] at hbe2; cases hbe2; exact (by first | assumption | (repeat (first | assumption | exact kx_rs (by assumption) | exact kx_ne2 (by omega) | exact kx_ne1 (by omega) | refine kx_ro (by assumption) ?_ ?_ | exact kx_rs rfl | refine kx_ro rfl ?_ ?_)))))) (by first | assumption | (repeat (first | assumption | exact kx_rs (by assumption) | exact kx_ne2 (by omega) | exact kx_ne1 (by omega) | refine kx_ro (by assumption) ?_ ?_ | exact kx_rs rfl | refine kx_ro rfl ?_ ?_))) (by
            intro x h1 h2 h3 h4 l r q h
            try (have h3' : x ≠ y21 := fun z => h3 (by rw [h21, z]))
            try (have h4' : x ≠ qn := fun z => h4 (by rw [z]; rfl))
            repeat (first | exact h | refine kx_ro (by assumption) ?_ ?_ | exact kx_ne2 (by omega))), by rw [← tt_i_rotL]; exact hnd, hD⟩, by rw [← hL0]; exact FR⟩
    · obtain ⟨b1, b2, hbe, he⟩ := tt_hd hTb h21
      have ny1 := hbp _ (tt_r_in h21)
      have ny2 := hbr _ (tt_r_in h21)
      try (have nyq2 : qn ≠ y21 := fun q => inB qn rfl (by subst q; simp [tt_i, tt_r_in h21]))
      first | refine ri_aload_n C dJ19_rotateRight_24 rfl ?_ | refine ri_aload_nQ C dJ19_rotateRight_24 rfl ?_ | refine ri_aload_nN C dJ19_rotateRight_24 rfl ?_
      refine ri_getf C dJ19_rotateRight_25 fr_q1087_19 (by first | assumption | (repeat (first | assumption | exact kx_rs (by assumption) | exact kx_ne2 (by omega) | exact kx_ne1 (by omega) | refine kx_ro (by assumption) ?_ ?_ | exact kx_rs rfl | refine kx_ro rfl ?_ ?_))) (by rfl) ?_
      rw [h21]
      first | refine ri_aload_n C dJ19_rotateRight_28 rfl ?_ | refine ri_aload_nQ C dJ19_rotateRight_28 rfl ?_ | refine ri_aload_nN C dJ19_rotateRight_28 rfl ?_
      refine ri_putf C dJ19_rotateRight_29 fd_q1089_19 (fun h => nomatch h) (by first | assumption | (repeat (first | assumption | exact kx_rs (by assumption) | exact kx_ne2 (by omega) | exact kx_ne1 (by omega) | refine kx_ro (by assumption) ?_ ?_ | exact kx_rs rfl | refine kx_ro rfl ?_ ?_))) (Nat.le_of_ble_eq_true rfl) (by rfl) (by rfl) (by dsimp only [List.set] <;> rfl) (fun s29 e29 => ?_)
      first | refine ri_aload_n C dJ19_rotateRight_32 rfl ?_ | refine ri_aload_nQ C dJ19_rotateRight_32 rfl ?_ | refine ri_aload_nN C dJ19_rotateRight_32 rfl ?_
      first | refine ri_aload_n C dJ19_rotateRight_33 rfl ?_ | refine ri_aload_nQ C dJ19_rotateRight_33 rfl ?_ | refine ri_aload_nN C dJ19_rotateRight_33 rfl ?_
      refine ri_getf C dJ19_rotateRight_34 fr_q1089_19 (by first | assumption | (repeat (first | assumption | exact kx_rs (by assumption) | exact kx_ne2 (by omega) | exact kx_ne1 (by omega) | refine kx_ro (by assumption) ?_ ?_ | exact kx_rs rfl | refine kx_ro rfl ?_ ?_))) (by rfl) ?_
      refine ri_putf C dJ19_rotateRight_37 fd_q1089_19 (fun h => nomatch h) (by first | assumption | (repeat (first | assumption | exact kx_rs (by assumption) | exact kx_ne2 (by omega) | exact kx_ne1 (by omega) | refine kx_ro (by assumption) ?_ ?_ | exact kx_rs rfl | refine kx_ro rfl ?_ ?_))) (Nat.le_of_ble_eq_true rfl) (by rfl) (by rfl) (by dsimp only [List.set] <;> rfl) (fun s37 e37 => ?_)
      first | refine ri_aload_n C dJ19_rotateRight_40 rfl ?_ | refine ri_aload_nQ C dJ19_rotateRight_40 rfl ?_ | refine ri_aload_nN C dJ19_rotateRight_40 rfl ?_
      refine ri_getf C dJ19_rotateRight_41 fr_q1089_19 (by first | assumption | (repeat (first | assumption | exact kx_rs (by assumption) | exact kx_ne2 (by omega) | exact kx_ne1 (by omega) | refine kx_ro (by assumption) ?_ ?_ | exact kx_rs rfl | refine kx_ro rfl ?_ ?_))) (by rfl) ?_
      refine ri_ifnonnull C 55 dJ19_rotateRight_44 rfl ?_
      first | refine ri_aload_n C dJ19_rotateRight_55 rfl ?_ | refine ri_aload_nQ C dJ19_rotateRight_55 rfl ?_ | refine ri_aload_nN C dJ19_rotateRight_55 rfl ?_
      refine ri_getf C dJ19_rotateRight_56 fr_q1089_19 (by first | assumption | (repeat (first | assumption | exact kx_rs (by assumption) | exact kx_ne2 (by omega) | exact kx_ne1 (by omega) | refine kx_ro (by assumption) ?_ ?_ | exact kx_rs rfl | refine kx_ro rfl ?_ ?_))) (by rfl) ?_
      refine ri_getf C dJ19_rotateRight_59 fr_q1087_19 (by first | assumption | (repeat (first | assumption | exact kx_rs (by assumption) | exact kx_ne2 (by omega) | exact kx_ne1 (by omega) | refine kx_ro (by assumption) ?_ ?_ | exact kx_rs rfl | refine kx_ro rfl ?_ ?_))) (by rfl) ?_
      first | refine ri_aload_n C dJ19_rotateRight_62 rfl ?_ | refine ri_aload_nQ C dJ19_rotateRight_62 rfl ?_ | refine ri_aload_nN C dJ19_rotateRight_62 rfl ?_
      refine ri_acmp_neR C 77 dJ19_rotateRight_63 rfl (fun h63 => ?_) (fun h63 => ?_)
      · exact absurd rfl h63 --dead
      · first | refine ri_aload_n C dJ19_rotateRight_66 rfl ?_ | refine ri_aload_nQ C dJ19_rotateRight_66 rfl ?_ | refine ri_aload_nN C dJ19_rotateRight_66 rfl ?_
        refine ri_getf C dJ19_rotateRight_67 fr_q1089_19 (by first | assumption | (repeat (first | assumption | exact kx_rs (by assumption) | exact kx_ne2 (by omega) | exact kx_ne1 (by omega) | refine kx_ro (by assumption) ?_ ?_ | exact kx_rs rfl | refine kx_ro rfl ?_ ?_))) (by rfl) ?_
        first | refine ri_aload_n C dJ19_rotateRight_70 rfl ?_ | refine ri_aload_nQ C dJ19_rotateRight_70 rfl ?_ | refine ri_aload_nN C dJ19_rotateRight_70 rfl ?_
        refine ri_putf C dJ19_rotateRight_71 fd_q1087_19 (fun h => nomatch h) (by first | assumption | (repeat (first | assumption | exact kx_rs (by assumption) | exact kx_ne2 (by omega) | exact kx_ne1 (by omega) | refine kx_ro (by assumption) ?_ ?_ | exact kx_rs rfl | refine kx_ro rfl ?_ ?_))) (Nat.le_of_ble_eq_true rfl) (by rfl) (by rfl) (by dsimp only [List.set] <;> rfl) (fun s71 e71 => ?_)
        refine ri_goto C 85 dJ19_rotateRight_74 rfl ?_
        first | refine ri_aload_n C dJ19_rotateRight_85 rfl ?_ | refine ri_aload_nQ C dJ19_rotateRight_85 rfl ?_ | refine ri_aload_nN C dJ19_rotateRight_85 rfl ?_
        first | refine ri_aload_n C dJ19_rotateRight_86 rfl ?_ | refine ri_aload_nQ C dJ19_rotateRight_86 rfl ?_ | refine ri_aload_nN C dJ19_rotateRight_86 rfl ?_
        refine ri_putf C dJ19_rotateRight_87 fd_q1087_19 (fun h => nomatch h) (by first | assumption | (repeat (first | assumption | exact kx_rs (by assumption) | exact kx_ne2 (by omega) | exact kx_ne1 (by omega) | refine kx_ro (by assumption) ?_ ?_ | exact kx_rs rfl | refine kx_ro rfl ?_ ?_))) (Nat.le_of_ble_eq_true rfl) (by rfl) (by rfl) (by dsimp only [List.set] <;> rfl) (fun s87 e87 => ?_)
        first | refine ri_aload_n C dJ19_rotateRight_90 rfl ?_ | refine ri_aload_nQ C dJ19_rotateRight_90 rfl ?_ | refine ri_aload_nN C dJ19_rotateRight_90 rfl ?_
        first | refine ri_aload_n C dJ19_rotateRight_91 rfl ?_ | refine ri_aload_nQ C dJ19_rotateRight_91 rfl ?_ | refine ri_aload_nN C dJ19_rotateRight_91 rfl ?_
        refine ri_putf C dJ19_rotateRight_92 fd_q1089_19 (fun h => nomatch h) (by first | assumption | (repeat (first | assumption | exact kx_rs (by assumption) | exact kx_ne2 (by omega) | exact kx_ne1 (by omega) | refine kx_ro (by assumption) ?_ ?_ | exact kx_rs rfl | refine kx_ro rfl ?_ ?_))) (Nat.le_of_ble_eq_true rfl) (by rfl) (by rfl) (by dsimp only [List.set] <;> rfl) (fun s92 e92 => ?_)
        have FR : kx_Fr (tm_T ct L0) σ s92 := by
          repeat (first | exact kx_Fr.rf | refine kx_Fr.up2 ?_ (by assumption) ?_ | exact tm_T_m | exact tm_T_e inp | exact tm_T_e inr' | exact tm_T_e (inb _ (tt_r_in h21)) | exact tm_T_e (inu _ rfl))
        exact ri_vret C hQ dJ19_rotateRight_95 (Nat.le_of_ble_eq_true rfl) (Nat.le_of_ble_eq_true rfl) ⟨rfl, ⟨by rw [tt_r_p _ _ _ (.branch pn (.branch rn td tb) ta)]; exact (by first | assumption | (repeat (first | assumption | exact kx_rs (by assumption) | exact kx_ne2 (by omega) | exact kx_ne1 (by omega) | refine kx_ro (by assumption) ?_ ?_ | exact kx_rs rfl | refine kx_ro rfl ?_ ?_))), tt_rotR hnd hT (by first | assumption | (repeat (first | assumption | exact kx_rs (by assumption) | exact kx_ne2 (by omega) | exact kx_ne1 (by omega) | refine kx_ro (by assumption) ?_ ?_ | exact kx_rs rfl | refine kx_ro rfl ?_ ?_))) (by first | assumption | (repeat (first | assumption | exact kx_rs (by assumption) | exact kx_ne2 (by omega) | exact kx_ne1 (by omega) | refine kx_ro (by assumption) ?_ ?_ | exact kx_rs rfl | refine kx_ro rfl ?_ ?_))) (tm_3 hTb (by
            intro e l r hbe2
            first
              | (exfalso; rw [hbe2] at h21; cases h21; done)
              | (rw [hbe] at hbe2; cases hbe2; exact (by first | assumption | (repeat (first | assumption | exact kx_rs (by assumption) | exact kx_ne2 (by omega) | exact kx_ne1 (by omega) | refine kx_ro (by assumption) ?_ ?_ | exact kx_rs rfl | refine kx_ro rfl ?_ ?_)))))) (by first | assumption | (repeat (first | assumption | exact kx_rs (by assumption) | exact kx_ne2 (by omega) | exact kx_ne1 (by omega) | refine kx_ro (by assumption) ?_ ?_ | exact kx_rs rfl | refine kx_ro rfl ?_ ?_))) (by
            intro x h1 h2 h3 h4 l r q h
            try (have h3' : x ≠ y21 := fun z => h3 (by rw [h21, z]))
            try (have h4' : x ≠ qn := fun z => h4 (by rw [z]; rfl))
            repeat (first | exact h | refine kx_ro (by assumption) ?_ ?_ | exact kx_ne2 (by omega))), by rw [← tt_i_rotL]; exact hnd, hD⟩, by rw [← hL0]; exact FR⟩
  · have hq : σ (ct, 100 + qn) = some (qn, .inr (19, [.ref (K qn), .ref (V qn), .ref pn, va_rf (tt_r ts), va_rf (tt_u Bx), .int (D qn)])) := hK.1
    have nqp : qn ≠ pn := fun q => inB qn rfl (by subst q; simp [tt_i])
    have nqr : qn ≠ rn := fun q => inB qn rfl (by subst q; simp [tt_i])
    have hts : tt_r ts ≠ some pn := fun q => nd3 pn (by simp [tt_i]) (by simp [tt_ic, tt_r_in q])
    have hp : σ (ct, 100 + pn) = some (pn, .inr (19, [.ref (K pn), .ref (V pn), .ref rn, va_rf (tt_r ta), .ref qn, .int (D pn)])) := hp
    first | refine ri_aload_n C dJ19_rotateRight_0 rfl ?_ | refine ri_aload_nQ C dJ19_rotateRight_0 rfl ?_ | refine ri_aload_nN C dJ19_rotateRight_0 rfl ?_
    refine ri_ifnull C dJ19_rotateRight_1 ?_
    first | refine ri_aload_n C dJ19_rotateRight_4 rfl ?_ | refine ri_aload_nQ C dJ19_rotateRight_4 rfl ?_ | refine ri_aload_nN C dJ19_rotateRight_4 rfl ?_
    refine ri_getf C dJ19_rotateRight_5 fr_q1086_19 (by first | assumption | (repeat (first | assumption | exact kx_rs (by assumption) | exact kx_ne2 (by omega) | exact kx_ne1 (by omega) | refine kx_ro (by assumption) ?_ ?_ | exact kx_rs rfl | refine kx_ro rfl ?_ ?_))) (by rfl) ?_
    first | refine ri_astore_n C dJ19_rotateRight_8 rfl (by decide) ?_ | refine ri_astore_nQ C dJ19_rotateRight_8 rfl (by decide) ?_ | refine ri_astore_nN C dJ19_rotateRight_8 rfl (by decide) ?_
    first | refine ri_aload_n C dJ19_rotateRight_9 rfl ?_ | refine ri_aload_nQ C dJ19_rotateRight_9 rfl ?_ | refine ri_aload_nN C dJ19_rotateRight_9 rfl ?_
    first | refine ri_aload_n C dJ19_rotateRight_10 rfl ?_ | refine ri_aload_nQ C dJ19_rotateRight_10 rfl ?_ | refine ri_aload_nN C dJ19_rotateRight_10 rfl ?_
    refine ri_getf C dJ19_rotateRight_11 fr_q1087_19 (by first | assumption | (repeat (first | assumption | exact kx_rs (by assumption) | exact kx_ne2 (by omega) | exact kx_ne1 (by omega) | refine kx_ro (by assumption) ?_ ?_ | exact kx_rs rfl | refine kx_ro rfl ?_ ?_))) (by rfl) ?_
    refine ri_putf C dJ19_rotateRight_14 fd_q1086_19 (fun h => nomatch h) (by first | assumption | (repeat (first | assumption | exact kx_rs (by assumption) | exact kx_ne2 (by omega) | exact kx_ne1 (by omega) | refine kx_ro (by assumption) ?_ ?_ | exact kx_rs rfl | refine kx_ro rfl ?_ ?_))) (Nat.le_of_ble_eq_true rfl) kx_nrf kx_frf (by dsimp only [List.set] <;> rfl) (fun s14 e14 => ?_)
    first | refine ri_aload_n C dJ19_rotateRight_17 rfl ?_ | refine ri_aload_nQ C dJ19_rotateRight_17 rfl ?_ | refine ri_aload_nN C dJ19_rotateRight_17 rfl ?_
    refine ri_getf C dJ19_rotateRight_18 fr_q1087_19 (by first | assumption | (repeat (first | assumption | exact kx_rs (by assumption) | exact kx_ne2 (by omega) | exact kx_ne1 (by omega) | refine kx_ro (by assumption) ?_ ?_ | exact kx_rs rfl | refine kx_ro rfl ?_ ?_))) (by rfl) ?_
    refine ri_ifnullQ C 32 dJ19_rotateRight_21 rfl (fun h21 => ?_) (fun y21 h21 => ?_)
    · first | refine ri_aload_n C dJ19_rotateRight_32 rfl ?_ | refine ri_aload_nQ C dJ19_rotateRight_32 rfl ?_ | refine ri_aload_nN C dJ19_rotateRight_32 rfl ?_
      first | refine ri_aload_n C dJ19_rotateRight_33 rfl ?_ | refine ri_aload_nQ C dJ19_rotateRight_33 rfl ?_ | refine ri_aload_nN C dJ19_rotateRight_33 rfl ?_
      refine ri_getf C dJ19_rotateRight_34 fr_q1089_19 (by first | assumption | (repeat (first | assumption | exact kx_rs (by assumption) | exact kx_ne2 (by omega) | exact kx_ne1 (by omega) | refine kx_ro (by assumption) ?_ ?_ | exact kx_rs rfl | refine kx_ro rfl ?_ ?_))) (by rfl) ?_
      refine ri_putf C dJ19_rotateRight_37 fd_q1089_19 (fun h => nomatch h) (by first | assumption | (repeat (first | assumption | exact kx_rs (by assumption) | exact kx_ne2 (by omega) | exact kx_ne1 (by omega) | refine kx_ro (by assumption) ?_ ?_ | exact kx_rs rfl | refine kx_ro rfl ?_ ?_))) (Nat.le_of_ble_eq_true rfl) (by rfl) (by rfl) (by dsimp only [List.set] <;> rfl) (fun s37 e37 => ?_)
      first | refine ri_aload_n C dJ19_rotateRight_40 rfl ?_ | refine ri_aload_nQ C dJ19_rotateRight_40 rfl ?_ | refine ri_aload_nN C dJ19_rotateRight_40 rfl ?_
      refine ri_getf C dJ19_rotateRight_41 fr_q1089_19 (by first | assumption | (repeat (first | assumption | exact kx_rs (by assumption) | exact kx_ne2 (by omega) | exact kx_ne1 (by omega) | refine kx_ro (by assumption) ?_ ?_ | exact kx_rs rfl | refine kx_ro rfl ?_ ?_))) (by rfl) ?_
      refine ri_ifnonnull C 55 dJ19_rotateRight_44 rfl ?_
      first | refine ri_aload_n C dJ19_rotateRight_55 rfl ?_ | refine ri_aload_nQ C dJ19_rotateRight_55 rfl ?_ | refine ri_aload_nN C dJ19_rotateRight_55 rfl ?_
      refine ri_getf C dJ19_rotateRight_56 fr_q1089_19 (by first | assumption | (repeat (first | assumption | exact kx_rs (by assumption) | exact kx_ne2 (by omega) | exact kx_ne1 (by omega) | refine kx_ro (by assumption) ?_ ?_ | exact kx_rs rfl | refine kx_ro rfl ?_ ?_))) (by rfl) ?_
      refine ri_getf C dJ19_rotateRight_59 fr_q1087_19 (by first | assumption | (repeat (first | assumption | exact kx_rs (by assumption) | exact kx_ne2 (by omega) | exact kx_ne1 (by omega) | refine kx_ro (by assumption) ?_ ?_ | exact kx_rs rfl | refine kx_ro rfl ?_ ?_))) (by rfl) ?_
      first | refine ri_aload_n C dJ19_rotateRight_62 rfl ?_ | refine ri_aload_nQ C dJ19_rotateRight_62 rfl ?_ | refine ri_aload_nN C dJ19_rotateRight_62 rfl ?_
      refine ri_acmp_neL C 77 dJ19_rotateRight_63 rfl (fun h63 => ?_) (fun h63 => ?_)
      · first | refine ri_aload_n C dJ19_rotateRight_77 rfl ?_ | refine ri_aload_nQ C dJ19_rotateRight_77 rfl ?_ | refine ri_aload_nN C dJ19_rotateRight_77 rfl ?_
        refine ri_getf C dJ19_rotateRight_78 fr_q1089_19 (by first | assumption | (repeat (first | assumption | exact kx_rs (by assumption) | exact kx_ne2 (by omega) | exact kx_ne1 (by omega) | refine kx_ro (by assumption) ?_ ?_ | exact kx_rs rfl | refine kx_ro rfl ?_ ?_))) (by rfl) ?_
        first | refine ri_aload_n C dJ19_rotateRight_81 rfl ?_ | refine ri_aload_nQ C dJ19_rotateRight_81 rfl ?_ | refine ri_aload_nN C dJ19_rotateRight_81 rfl ?_
        refine ri_putf C dJ19_rotateRight_82 fd_q1086_19 (fun h => nomatch h) (by first | assumption | (repeat (first | assumption | exact kx_rs (by assumption) | exact kx_ne2 (by omega) | exact kx_ne1 (by omega) | refine kx_ro (by assumption) ?_ ?_ | exact kx_rs rfl | refine kx_ro rfl ?_ ?_))) (Nat.le_of_ble_eq_true rfl) (by rfl) (by rfl) (by dsimp only [List.set] <;> rfl) (fun s82 e82 => ?_)
        first | refine ri_aload_n C dJ19_rotateRight_85 rfl ?_ | refine ri_aload_nQ C dJ19_rotateRight_85 rfl ?_ | refine ri_aload_nN C dJ19_rotateRight_85 rfl ?_
        first | refine ri_aload_n C dJ19_rotateRight_86 rfl ?_ | refine ri_aload_nQ C dJ19_rotateRight_86 rfl ?_ | refine ri_aload_nN C dJ19_rotateRight_86 rfl ?_
        refine ri_putf C dJ19_rotateRight_87 fd_q1087_19 (fun h => nomatch h) (by first | assumption | (repeat (first | assumption | exact kx_rs (by assumption) | exact kx_ne2 (by omega) | exact kx_ne1 (by omega) | refine kx_ro (by assumption) ?_ ?_ | exact kx_rs rfl | refine kx_ro rfl ?_ ?_))) (Nat.le_of_ble_eq_true rfl) (by rfl) (by rfl) (by dsimp only [List.set] <;> rfl) (fun s87 e87 => ?_)
        first | refine ri_aload_n C dJ19_rotateRight_90 rfl ?_ | refine ri_aload_nQ C dJ19_rotateRight_90 rfl ?_ | refine ri_aload_nN C dJ19_rotateRight_90 rfl ?_
        first | refine ri_aload_n C dJ19_rotateRight_91 rfl ?_ | refine ri_aload_nQ C dJ19_rotateRight_91 rfl ?_ | refine ri_aload_nN C dJ19_rotateRight_91 rfl ?_
        refine ri_putf C dJ19_rotateRight_92 fd_q1089_19 (fun h => nomatch h) (by first | assumption | (repeat (first | assumption | exact kx_rs (by assumption) | exact kx_ne2 (by omega) | exact kx_ne1 (by omega) | refine kx_ro (by assumption) ?_ ?_ | exact kx_rs rfl | refine kx_ro rfl ?_ ?_))) (Nat.le_of_ble_eq_true rfl) (by rfl) (by rfl) (by dsimp only [List.set] <;> rfl) (fun s92 e92 => ?_)
        have FR : kx_Fr (tm_T ct L0) σ s92 := by
          repeat (first | exact kx_Fr.rf | refine kx_Fr.up2 ?_ (by assumption) ?_ | exact tm_T_m | exact tm_T_e inp | exact tm_T_e inr' | exact tm_T_e (inb _ (tt_r_in h21)) | exact tm_T_e (inu _ rfl))
        exact ri_vret C hQ dJ19_rotateRight_95 (Nat.le_of_ble_eq_true rfl) (Nat.le_of_ble_eq_true rfl) ⟨rfl, ⟨by rw [tt_r_p _ _ _ (.branch pn (.branch rn td tb) ta)]; exact (by first | assumption | (repeat (first | assumption | exact kx_rs (by assumption) | exact kx_ne2 (by omega) | exact kx_ne1 (by omega) | refine kx_ro (by assumption) ?_ ?_ | exact kx_rs rfl | refine kx_ro rfl ?_ ?_))), tt_rotR hnd hT (by first | assumption | (repeat (first | assumption | exact kx_rs (by assumption) | exact kx_ne2 (by omega) | exact kx_ne1 (by omega) | refine kx_ro (by assumption) ?_ ?_ | exact kx_rs rfl | refine kx_ro rfl ?_ ?_))) (by first | assumption | (repeat (first | assumption | exact kx_rs (by assumption) | exact kx_ne2 (by omega) | exact kx_ne1 (by omega) | refine kx_ro (by assumption) ?_ ?_ | exact kx_rs rfl | refine kx_ro rfl ?_ ?_))) (tm_3 hTb (by
            intro e l r hbe2
            first
              | (exfalso; rw [hbe2] at h21; cases h21; done)
              | (rw [hbe] at hbe2; cases hbe2; exact (by first | assumption | (repeat (first | assumption | exact kx_rs (by assumption) | exact kx_ne2 (by omega) | exact kx_ne1 (by omega) | refine kx_ro (by assumption) ?_ ?_ | exact kx_rs rfl | refine kx_ro rfl ?_ ?_)))))) (by first | assumption | (repeat (first | assumption | exact kx_rs (by assumption) | exact kx_ne2 (by omega) | exact kx_ne1 (by omega) | refine kx_ro (by assumption) ?_ ?_ | exact kx_rs rfl | refine kx_ro rfl ?_ ?_))) (by
            intro x h1 h2 h3 h4 l r q h
            try (have h3' : x ≠ y21 := fun z => h3 (by rw [h21, z]))
            try (have h4' : x ≠ qn := fun z => h4 (by rw [z]; rfl))
            repeat (first | exact h | refine kx_ro (by assumption) ?_ ?_ | exact kx_ne2 (by omega))), by rw [← tt_i_rotL]; exact hnd, hD⟩, by rw [← hL0]; exact FR⟩
      · exact absurd h63 hts --dead
    · obtain ⟨b1, b2, hbe, he⟩ := tt_hd hTb h21
      have ny1 := hbp _ (tt_r_in h21)
      have ny2 := hbr _ (tt_r_in h21)
      try (have nyq2 : qn ≠ y21 := fun q => inB qn rfl (by subst q; simp [tt_i, tt_r_in h21]))
      first | refine ri_aload_n C dJ19_rotateRight_24 rfl ?_ | refine ri_aload_nQ C dJ19_rotateRight_24 rfl ?_ | refine ri_aload_nN C dJ19_rotateRight_24 rfl ?_
      refine ri_getf C dJ19_rotateRight_25 fr_q1087_19 (by first | assumption | (repeat (first | assumption | exact kx_rs (by assumption) | exact kx_ne2 (by omega) | exact kx_ne1 (by omega) | refine kx_ro (by assumption) ?_ ?_ | exact kx_rs rfl | refine kx_ro rfl ?_ ?_))) (by rfl) ?_
      rw [h21]
      first | refine ri_aload_n C dJ19_rotateRight_28 rfl ?_ | refine ri_aload_nQ C dJ19_rotateRight_28 rfl ?_ | refine ri_aload_nN C dJ19_rotateRight_28 rfl ?_
      refine ri_putf C dJ19_rotateRight_29 fd_q1089_19 (fun h => nomatch h) (by first | assumption | (repeat (first | assumption | exact kx_rs (by assumption) | exact kx_ne2 (by omega) | exact kx_ne1 (by omega) | refine kx_ro (by assumption) ?_ ?_ | exact kx_rs rfl | refine kx_ro rfl ?_ ?_))) (Nat.le_of_ble_eq_true rfl) (by rfl) (by rfl) (by dsimp only [List.set] <;> rfl) (fun s29 e29 => ?_)
      first | refine ri_aload_n C dJ19_rotateRight_32 rfl ?_ | refine ri_aload_nQ C dJ19_rotateRight_32 rfl ?_ | refine ri_aload_nN C dJ19_rotateRight_32 rfl ?_
      first | refine ri_aload_n C dJ19_rotateRight_33 rfl ?_ | refine ri_aload_nQ C dJ19_rotateRight_33 rfl ?_ | refine ri_aload_nN C dJ19_rotateRight_33 rfl ?_
      refine ri_getf C dJ19_rotateRight_34 fr_q1089_19 (by first | assumption | (repeat (first | assumption | exact kx_rs (by assumption) | exact kx_ne2 (by omega) | exact kx_ne1 (by omega) | refine kx_ro (by assumption) ?_ ?_ | exact kx_rs rfl | refine kx_ro rfl ?_ ?_))) (by rfl) ?_
      refine ri_putf C dJ19_rotateRight_37 fd_q1089_19 (fun h => nomatch h) (by first | assumption | (repeat (first | assumption | exact kx_rs (by assumption) | exact kx_ne2 (by omega) | exact kx_ne1 (by omega) | refine kx_ro (by assumption) ?_ ?_ | exact kx_rs rfl | refine kx_ro rfl ?_ ?_))) (Nat.le_of_ble_eq_true rfl) (by rfl) (by rfl) (by dsimp only [List.set] <;> rfl) (fun s37 e37 => ?_)
      first | refine ri_aload_n C dJ19_rotateRight_40 rfl ?_ | refine ri_aload_nQ C dJ19_rotateRight_40 rfl ?_ | refine ri_aload_nN C dJ19_rotateRight_40 rfl ?_
      refine ri_getf C dJ19_rotateRight_41 fr_q1089_19 (by first | assumption | (repeat (first | assumption | exact kx_rs (by assumption) | exact kx_ne2 (by omega) | exact kx_ne1 (by omega) | refine kx_ro (by assumption) ?_ ?_ | exact kx_rs rfl | refine kx_ro rfl ?_ ?_))) (by rfl) ?_
      refine ri_ifnonnull C 55 dJ19_rotateRight_44 rfl ?_
      first | refine ri_aload_n C dJ19_rotateRight_55 rfl ?_ | refine ri_aload_nQ C dJ19_rotateRight_55 rfl ?_ | refine ri_aload_nN C dJ19_rotateRight_55 rfl ?_
      refine ri_getf C dJ19_rotateRight_56 fr_q1089_19 (by first | assumption | (repeat (first | assumption | exact kx_rs (by assumption) | exact kx_ne2 (by omega) | exact kx_ne1 (by omega) | refine kx_ro (by assumption) ?_ ?_ | exact kx_rs rfl | refine kx_ro rfl ?_ ?_))) (by rfl) ?_
      refine ri_getf C dJ19_rotateRight_59 fr_q1087_19 (by first | assumption | (repeat (first | assumption | exact kx_rs (by assumption) | exact kx_ne2 (by omega) | exact kx_ne1 (by omega) | refine kx_ro (by assumption) ?_ ?_ | exact kx_rs rfl | refine kx_ro rfl ?_ ?_))) (by rfl) ?_
      first | refine ri_aload_n C dJ19_rotateRight_62 rfl ?_ | refine ri_aload_nQ C dJ19_rotateRight_62 rfl ?_ | refine ri_aload_nN C dJ19_rotateRight_62 rfl ?_
      refine ri_acmp_neL C 77 dJ19_rotateRight_63 rfl (fun h63 => ?_) (fun h63 => ?_)
      · first | refine ri_aload_n C dJ19_rotateRight_77 rfl ?_ | refine ri_aload_nQ C dJ19_rotateRight_77 rfl ?_ | refine ri_aload_nN C dJ19_rotateRight_77 rfl ?_
        refine ri_getf C dJ19_rotateRight_78 fr_q1089_19 (by first | assumption | (repeat (first | assumption | exact kx_rs (by assumption) | exact kx_ne2 (by omega) | exact kx_ne1 (by omega) | refine kx_ro (by assumption) ?_ ?_ | exact kx_rs rfl | refine kx_ro rfl ?_ ?_))) (by rfl) ?_
        first | refine ri_aload_n C dJ19_rotateRight_81 rfl ?_ | refine ri_aload_nQ C dJ19_rotateRight_81 rfl ?_ | refine ri_aload_nN C dJ19_rotateRight_81 rfl ?_
        refine ri_putf C dJ19_rotateRight_82 fd_q1086_19 (fun h => nomatch h) (by first | assumption | (repeat (first | assumption | exact kx_rs (by assumption) | exact kx_ne2 (by omega) | exact kx_ne1 (by omega) | refine kx_ro (by assumption) ?_ ?_ | exact kx_rs rfl | refine kx_ro rfl ?_ ?_))) (Nat.le_of_ble_eq_true rfl) (by rfl) (by rfl) (by dsimp only [List.set] <;> rfl) (fun s82 e82 => ?_)
        first | refine ri_aload_n C dJ19_rotateRight_85 rfl ?_ | refine ri_aload_nQ C dJ19_rotateRight_85 rfl ?_ | refine ri_aload_nN C dJ19_rotateRight_85 rfl ?_
        first | refine ri_aload_n C dJ19_rotateRight_86 rfl ?_ | refine ri_aload_nQ C dJ19_rotateRight_86 rfl ?_ | refine ri_aload_nN C dJ19_rotateRight_86 rfl ?_
        refine ri_putf C dJ19_rotateRight_87 fd_q1087_19 (fun h => nomatch h) (by first | assumption | (repeat (first | assumption | exact kx_rs (by assumption) | exact kx_ne2 (by omega) | exact kx_ne1 (by omega) | refine kx_ro (by assumption) ?_ ?_ | exact kx_rs rfl | refine kx_ro rfl ?_ ?_))) (Nat.le_of_ble_eq_true rfl) (by rfl) (by rfl) (by dsimp only [List.set] <;> rfl) (fun s87 e87 => ?_)
        first | refine ri_aload_n C dJ19_rotateRight_90 rfl ?_ | refine ri_aload_nQ C dJ19_rotateRight_90 rfl ?_ | refine ri_aload_nN C dJ19_rotateRight_90 rfl ?_
        first | refine ri_aload_n C dJ19_rotateRight_91 rfl ?_ | refine ri_aload_nQ C dJ19_rotateRight_91 rfl ?_ | refine ri_aload_nN C dJ19_rotateRight_91 rfl ?_
        refine ri_putf C dJ19_rotateRight_92 fd_q1089_19 (fun h => nomatch h) (by first | assumption | (repeat (first | assumption | exact kx_rs (by assumption) | exact kx_ne2 (by omega) | exact kx_ne1 (by omega) | refine kx_ro (by assumption) ?_ ?_ | exact kx_rs rfl | refine kx_ro rfl ?_ ?_))) (Nat.le_of_ble_eq_true rfl) (by rfl) (by rfl) (by dsimp only [List.set] <;> rfl) (fun s92 e92 => ?_)
        have FR : kx_Fr (tm_T ct L0) σ s92 := by
          repeat (first | exact kx_Fr.rf | refine kx_Fr.up2 ?_ (by assumption) ?_ | exact tm_T_m | exact tm_T_e inp | exact tm_T_e inr' | exact tm_T_e (inb _ (tt_r_in h21)) | exact tm_T_e (inu _ rfl))
        exact ri_vret C hQ dJ19_rotateRight_95 (Nat.le_of_ble_eq_true rfl) (Nat.le_of_ble_eq_true rfl) ⟨rfl, ⟨by rw [tt_r_p _ _ _ (.branch pn (.branch rn td tb) ta)]; exact (by first | assumption | (repeat (first | assumption | exact kx_rs (by assumption) | exact kx_ne2 (by omega) | exact kx_ne1 (by omega) | refine kx_ro (by assumption) ?_ ?_ | exact kx_rs rfl | refine kx_ro rfl ?_ ?_))), tt_rotR hnd hT (by first | assumption | (repeat (first | assumption | exact kx_rs (by assumption) | exact kx_ne2 (by omega) | exact kx_ne1 (by omega) | refine kx_ro (by assumption) ?_ ?_ | exact kx_rs rfl | refine kx_ro rfl ?_ ?_))) (by first | assumption | (repeat (first | assumption | exact kx_rs (by assumption) | exact kx_ne2 (by omega) | exact kx_ne1 (by omega) | refine kx_ro (by assumption) ?_ ?_ | exact kx_rs rfl | refine kx_ro rfl ?_ ?_))) (tm_3 hTb (by
            intro e l r hbe2
            first
              | (exfalso; rw [hbe2] at h21; cases h21; done)
              | (rw [hbe] at hbe2; cases hbe2; exact (by first | assumption | (repeat (first | assumption | exact kx_rs (by assumption) | exact kx_ne2 (by omega) | exact kx_ne1 (by omega) | refine kx_ro (by assumption) ?_ ?_ | exact kx_rs rfl | refine kx_ro rfl ?_ ?_)))))) (by first | assumption | (repeat (first | assumption | exact kx_rs (by assumption) | exact kx_ne2 (by omega) | exact kx_ne1 (by omega) | refine kx_ro (by assumption) ?_ ?_ | exact kx_rs rfl | refine kx_ro rfl ?_ ?_))) (by
            intro x h1 h2 h3 h4 l r q h
            try (have h3' : x ≠ y21 := fun z => h3 (by rw [h21, z]))
            try (have h4' : x ≠ qn := fun z => h4 (by rw [z]; rfl))
            repeat (first | exact h | refine kx_ro (by assumption) ?_ ?_ | exact kx_ne2 (by omega))), by rw [← tt_i_rotL]; exact hnd, hD⟩, by rw [← hL0]; exact FR⟩
      · exact absurd h63 hts --dead
