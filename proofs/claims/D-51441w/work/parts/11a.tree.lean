set_option maxRecDepth 100000
/-! THE PURE SIDE: binary trees of numbers (core Lean's own tree), a hole in them, cells that hold them -/
abbrev tt_T : Type := Lean.RArray Unit
abbrev tt_n : tt_T := .leaf ()
def tt_i : tt_T → List Nat
  | .leaf _ => []
  | .branch a l r => tt_i l ++ a :: tt_i r
def tt_r : tt_T → Option Nat
  | .leaf _ => none
  | .branch a _ _ => some a
/-- the way up from a hole, the nearest one first; true: the hole is the left child -/
abbrev tt_C : Type := List (Bool × Nat × tt_T)
def tt_p : tt_C → tt_T → tt_T
  | [], t => t
  | (true, q, s) :: B, t => tt_p B (.branch q t s)
  | (false, q, s) :: B, t => tt_p B (.branch q s t)
def tt_u : tt_C → Option Nat
  | [] => none
  | (_, q, _) :: _ => some q
def tt_lc : tt_C → List Nat
  | [] => []
  | (true, _, _) :: B => tt_lc B
  | (false, q, s) :: B => tt_lc B ++ (tt_i s ++ [q])
def tt_rc : tt_C → List Nat
  | [] => []
  | (true, q, s) :: B => q :: (tt_i s ++ tt_rc B)
  | (false, _, _) :: B => tt_rc B
theorem tt_i_p : ∀ (B : tt_C) (t : tt_T), tt_i (tt_p B t) = tt_lc B ++ (tt_i t ++ tt_rc B)
  | [], t => by simp [tt_p, tt_lc, tt_rc]
  | (true, q, s) :: B, t => by simp only [tt_p, tt_lc, tt_rc]; rw [tt_i_p B]; simp [tt_i]
  | (false, q, s) :: B, t => by simp only [tt_p, tt_lc, tt_rc]; rw [tt_i_p B]; simp [tt_i]
theorem tt_p_a : ∀ (A B : tt_C) (t : tt_T), tt_p (A ++ B) t = tt_p B (tt_p A t)
  | [], _, _ => rfl
  | (true, q, s) :: A, B, t => tt_p_a A B _
  | (false, q, s) :: A, B, t => tt_p_a A B _
/-- every node's place -/
theorem tt_at {x : Nat} : ∀ {t : tt_T}, x ∈ tt_i t → ∃ B l r, t = tt_p B (.branch x l r)
  | .leaf _, h => by simp [tt_i] at h
  | .branch a l r, h => by
    simp only [tt_i, List.mem_append, List.mem_cons] at h
    rcases h with h | h | h
    · obtain ⟨B, u, v, e⟩ := tt_at h
      exact ⟨B ++ [(true, a, r)], u, v, by rw [tt_p_a, ← e]; rfl⟩
    · subst h; exact ⟨[], l, r, rfl⟩
    · obtain ⟨B, u, v, e⟩ := tt_at h
      exact ⟨B ++ [(false, a, l)], u, v, by rw [tt_p_a, ← e]; rfl⟩
/-- the cells hold the tree: M a l r p says that the cell a has these three neighbours -/
abbrev tt_M : Type := Nat → Option Nat → Option Nat → Option Nat → Prop
def tt_H (M : tt_M) : tt_T → Option Nat → Prop
  | .leaf _, _ => True
  | .branch a l r, p => M a (tt_r l) (tt_r r) p ∧ tt_H M l (some a) ∧ tt_H M r (some a)
def tt_K (M : tt_M) : tt_C → Option Nat → Prop
  | [], _ => True
  | (true, q, s) :: B, ch => M q ch (tt_r s) (tt_u B) ∧ tt_H M s (some q) ∧ tt_K M B (some q)
  | (false, q, s) :: B, ch => M q (tt_r s) ch (tt_u B) ∧ tt_H M s (some q) ∧ tt_K M B (some q)
theorem tt_H_p {M : tt_M} : ∀ (B : tt_C) (t : tt_T), tt_H M (tt_p B t) none ↔ tt_H M t (tt_u B) ∧ tt_K M B (tt_r t)
  | [], t => by simp [tt_p, tt_u, tt_K]
  | (true, q, s) :: B, t => by
    simp only [tt_p, tt_u, tt_K]
    rw [tt_H_p B]
    simp only [tt_H, tt_r]
    constructor
    · rintro ⟨⟨a, b, c⟩, d⟩; exact ⟨b, a, c, d⟩
    · rintro ⟨b, a, c, d⟩; exact ⟨⟨a, b, c⟩, d⟩
  | (false, q, s) :: B, t => by
    simp only [tt_p, tt_u, tt_K]
    rw [tt_H_p B]
    simp only [tt_H, tt_r]
    constructor
    · rintro ⟨⟨a, b, c⟩, d⟩; exact ⟨c, a, b, d⟩
    · rintro ⟨b, a, c, d⟩; exact ⟨⟨a, c, b⟩, d⟩
theorem tt_H_m {M M' : tt_M} : ∀ {t : tt_T} {p : Option Nat}, (∀ a ∈ tt_i t, ∀ l r p, M a l r p → M' a l r p) → tt_H M t p → tt_H M' t p
  | .leaf _, _, _, _ => trivial
  | .branch a l r, p, h, g => ⟨h a (by simp [tt_i]) _ _ _ g.1, tt_H_m (fun b hb => h b (by simp [tt_i, hb])) g.2.1, tt_H_m (fun b hb => h b (by simp [tt_i, hb])) g.2.2⟩
/-- the ids of the way up -/
def tt_ic : tt_C → List Nat
  | [] => []
  | (_, q, s) :: B => q :: (tt_i s ++ tt_ic B)
theorem tt_ic_m {x : Nat} : ∀ {B : tt_C}, x ∈ tt_ic B ↔ x ∈ tt_lc B ∨ x ∈ tt_rc B
  | [] => by simp [tt_ic, tt_lc, tt_rc]
  | (true, q, s) :: B => by
    have := @tt_ic_m x B
    simp only [tt_ic, tt_lc, tt_rc, List.mem_cons, List.mem_append, this]
    constructor
    · rintro (h | h | h | h) <;> simp [h]
    · rintro (h | h | h | h) <;> simp [h]
  | (false, q, s) :: B => by
    have := @tt_ic_m x B
    simp only [tt_ic, tt_lc, tt_rc, List.mem_cons, List.mem_append, this, List.not_mem_nil, or_false]
    constructor
    · rintro (h | h | h | h) <;> simp [h]
    · rintro ((h | h | h) | h) <;> simp [h]
theorem tt_K_m {M M' : tt_M} : ∀ {B : tt_C} {ch : Option Nat}, (∀ a ∈ tt_ic B, ∀ l r p, M a l r p → M' a l r p) → tt_K M B ch → tt_K M' B ch
  | [], _, _, _ => trivial
  | (true, q, s) :: B, ch, h, g => ⟨h q (by simp [tt_ic]) _ _ _ g.1, tt_H_m (fun b hb => h b (by simp [tt_ic, hb])) g.2.1, tt_K_m (fun b hb => h b (by simp [tt_ic, hb])) g.2.2⟩
  | (false, q, s) :: B, ch, h, g => ⟨h q (by simp [tt_ic]) _ _ _ g.1, tt_H_m (fun b hb => h b (by simp [tt_ic, hb])) g.2.1, tt_K_m (fun b hb => h b (by simp [tt_ic, hb])) g.2.2⟩
/-- each id stands in the hole's tree or on the way, never in both -/
theorem tt_nd {B : tt_C} {t : tt_T} (h : (tt_i (tt_p B t)).Nodup) : (tt_i t).Nodup ∧ (tt_ic B).Nodup ∧ ∀ x ∈ tt_i t, x ∉ tt_ic B := by
  rw [tt_i_p] at h
  obtain ⟨h1, h2, h3⟩ := List.nodup_append.mp h
  obtain ⟨h4, h5, h6⟩ := List.nodup_append.mp h2
  refine ⟨h4, ?_, fun x hx hc => ?_⟩
  · clear h4 h6
    have key : ∀ B : tt_C, (tt_lc B).Nodup → (tt_rc B).Nodup → (∀ a ∈ tt_lc B, ∀ b ∈ tt_rc B, a ≠ b) → (tt_ic B).Nodup := by
      intro B
      induction B with
      | nil => intro _ _ _; exact List.nodup_nil
      | cons f B ih =>
        obtain ⟨d, q, s⟩ := f
        intro g1 g2 g3
        cases d with
        | true =>
          simp only [tt_lc, tt_rc, tt_ic] at g1 g2 g3 ⊢
          obtain ⟨k1, k2⟩ := List.nodup_cons.mp g2
          obtain ⟨k3, k4, k5⟩ := List.nodup_append.mp k2
          refine List.nodup_cons.mpr ⟨?_, List.nodup_append.mpr ⟨k3, ih g1 k4 (fun a ha b hb => g3 a ha b (by simp [hb])), ?_⟩⟩
          · intro hq
            rcases List.mem_append.mp hq with hq | hq
            · exact k1 (by simp [hq])
            · rcases tt_ic_m.mp hq with hq | hq
              · exact g3 q hq q (by simp) rfl
              · exact k1 (by simp [hq])
          · intro a ha b hb e
            subst e
            rcases tt_ic_m.mp hb with hb | hb
            · exact g3 a hb a (by simp [ha]) rfl
            · exact k5 a ha a hb rfl
        | false =>
          simp only [tt_lc, tt_rc, tt_ic] at g1 g2 g3 ⊢
          obtain ⟨k1, k2, k5⟩ := List.nodup_append.mp g1
          obtain ⟨k3, -, k4⟩ := List.nodup_append.mp k2
          refine List.nodup_cons.mpr ⟨?_, List.nodup_append.mpr ⟨k3, ih k1 g2 (fun a ha b hb => g3 a (by simp [ha]) b hb), ?_⟩⟩
          · intro hq
            rcases List.mem_append.mp hq with hq | hq
            · exact k4 q hq q (by simp) rfl
            · rcases tt_ic_m.mp hq with hq | hq
              · exact k5 q hq q (by simp) rfl
              · exact g3 q (by simp) q hq rfl
          · intro a ha b hb e
            subst e
            rcases tt_ic_m.mp hb with hb | hb
            · exact k5 a hb a (by simp [ha]) rfl
            · exact g3 a (by simp [ha]) a hb rfl
    exact key B h1 h5 (fun a ha b hb => h3 a ha b (by simp [hb]))
  · rcases tt_ic_m.mp hc with hc | hc
    · exact h3 x hc x (by simp [hx]) rfl
    · exact h6 x hx x hc rfl
theorem tt_hd {M : tt_M} : ∀ {b : tt_T} {p : Option Nat} {e : Nat}, tt_H M b p → tt_r b = some e → ∃ b1 b2, b = .branch e b1 b2 ∧ M e (tt_r b1) (tt_r b2) p
  | .leaf _, _, _, _, h => by simp [tt_r] at h
  | .branch a l r, p, e, h, q => by simp only [tt_r, Option.some.injEq] at q; subst q; exact ⟨l, r, rfl, h.1⟩
theorem tt_hN : ∀ {b : tt_T}, tt_r b = none → b = tt_n
  | .leaf _, _ => rfl
  | .branch a l r, q => by simp [tt_r] at q
theorem tt_r_in : ∀ {b : tt_T} {e : Nat}, tt_r b = some e → e ∈ tt_i b
  | .leaf _, _, h => by simp [tt_r] at h
  | .branch a l r, e, q => by simp only [tt_r, Option.some.injEq] at q; subst q; simp [tt_i]
theorem tt_u_in : ∀ {B : tt_C} {e : Nat}, tt_u B = some e → e ∈ tt_ic B
  | [], _, h => by simp [tt_u] at h
  | (_, q, _) :: _, e, h => by simp only [tt_u, Option.some.injEq] at h; subst h; simp [tt_ic]
/-- the same tree under another parent -/
theorem tt_rp {M M' : tt_M} {p p' : Option Nat} : ∀ {b : tt_T}, (tt_i b).Nodup → tt_H M b p → (∀ e l r, tt_r b = some e → M e l r p → M' e l r p') → (∀ x ∈ tt_i b, tt_r b ≠ some x → ∀ l r p, M x l r p → M' x l r p) → tt_H M' b p'
  | .leaf _, _, _, _, _ => trivial
  | .branch a l r, nd, h, e3, e5 => by
    simp only [tt_i] at nd
    obtain ⟨n1, n2, n3⟩ := List.nodup_append.mp nd
    obtain ⟨n4, n5⟩ := List.nodup_cons.mp n2
    refine ⟨e3 a _ _ rfl h.1, tt_H_m (fun b hb => e5 b (by simp [tt_i, hb]) ?_) h.2.1, tt_H_m (fun b hb => e5 b (by simp [tt_i, hb]) ?_) h.2.2⟩
    · simp only [tt_r, ne_eq, Option.some.injEq]; rintro rfl; exact n3 _ hb _ (by simp) rfl
    · simp only [tt_r, ne_eq, Option.some.injEq]; rintro rfl; exact n4 hb
/-- the nearest one on the way up has ch' for its child -/
def tt_K0 (M : tt_M) (ch : Option Nat) : tt_C → Prop
  | [] => True
  | (true, q, s) :: B => M q ch (tt_r s) (tt_u B)
  | (false, q, s) :: B => M q (tt_r s) ch (tt_u B)
theorem tt_K_0 {M : tt_M} {ch : Option Nat} : ∀ {B : tt_C}, tt_K M B ch → tt_K0 M ch B
  | [], _ => trivial
  | (true, _, _) :: _, h => h.1
  | (false, _, _) :: _, h => h.1
theorem tt_rk {M M' : tt_M} {ch ch' : Option Nat} : ∀ {B : tt_C}, (tt_ic B).Nodup → tt_K M B ch → tt_K0 M' ch' B → (∀ x ∈ tt_ic B, tt_u B ≠ some x → ∀ l r p, M x l r p → M' x l r p) → tt_K M' B ch'
  | [], _, _, _, _ => trivial
  | (d, q, s) :: B, nd, h, e4, e5 => by
    simp only [tt_ic] at nd
    obtain ⟨n1, n2⟩ := List.nodup_cons.mp nd
    have k1 : ∀ b ∈ tt_i s ++ tt_ic B, ∀ l r p, M b l r p → M' b l r p := fun b hb => e5 b (by simp only [tt_ic, List.mem_cons]; exact Or.inr hb) (by simp only [tt_u, ne_eq, Option.some.injEq]; rintro rfl; exact n1 hb)
    cases d with
    | true => exact ⟨e4, tt_H_m (fun b hb => k1 b (List.mem_append_left _ hb)) h.2.1, tt_K_m (fun b hb => k1 b (List.mem_append_right _ hb)) h.2.2⟩
    | false => exact ⟨e4, tt_H_m (fun b hb => k1 b (List.mem_append_left _ hb)) h.2.1, tt_K_m (fun b hb => k1 b (List.mem_append_right _ hb)) h.2.2⟩
theorem tt_nb {a : Nat} {l r : tt_T} (h : (tt_i (.branch a l r)).Nodup) : (tt_i l).Nodup ∧ (tt_i r).Nodup ∧ a ∉ tt_i l ∧ a ∉ tt_i r ∧ ∀ x ∈ tt_i l, x ∉ tt_i r := by
  simp only [tt_i] at h
  obtain ⟨n1, n2, n3⟩ := List.nodup_append.mp h
  obtain ⟨n4, n5⟩ := List.nodup_cons.mp n2
  exact ⟨n1, n5, fun q => n3 _ q _ (by simp) rfl, n4, fun x hx hy => n3 _ hx _ (by simp [hy]) rfl⟩
theorem tt_rotL {M M' : tt_M} {B : tt_C} {p r : Nat} {a b d : tt_T} (nd : (tt_i (tt_p B (.branch p a (.branch r b d)))).Nodup) (h : tt_H M (tt_p B (.branch p a (.branch r b d))) none)
    (e1 : M' p (tt_r a) (tt_r b) (some r)) (e2 : M' r (some p) (tt_r d) (tt_u B)) (e3 : ∀ e l r', tt_r b = some e → M e l r' (some r) → M' e l r' (some p)) (e4 : tt_K0 M' (some r) B)
    (e5 : ∀ x, x ≠ p → x ≠ r → tt_r b ≠ some x → tt_u B ≠ some x → ∀ l r p, M x l r p → M' x l r p) : tt_H M' (tt_p B (.branch r (.branch p a b) d)) none := by
  obtain ⟨n1, n2, n3⟩ := tt_nd nd
  obtain ⟨⟨h1, h2, h3, h4, h5⟩, h6⟩ := (tt_H_p B _).mp h
  obtain ⟨m1, m2, m3, m4, m5⟩ := tt_nb n1
  obtain ⟨k1, k2, k3, k4, k5⟩ := tt_nb m2
  have hu : ∀ x, x ∈ tt_i (.branch p a (.branch r b d)) → tt_u B ≠ some x := fun x hx e => n3 x hx (tt_u_in e)
  have hb : ∀ x, x ∉ tt_i b → tt_r b ≠ some x := fun x hx e => hx (tt_r_in e)
  refine (tt_H_p B _).mpr ⟨⟨e2, ⟨e1, tt_H_m (fun x hx => e5 x ?_ ?_ ?_ ?_) h2, tt_rp k1 h4 e3 (fun x hx hn => e5 x ?_ ?_ hn ?_)⟩, tt_H_m (fun x hx => e5 x ?_ ?_ ?_ ?_) h5⟩, tt_rk n2 h6 e4 (fun x hx hn => e5 x ?_ ?_ ?_ hn)⟩
  · rintro rfl; exact m3 hx
  · rintro rfl; exact m5 _ hx (by simp [tt_i])
  · exact hb _ fun q => m5 _ hx (by simp [tt_i, q])
  · exact hu _ (by simp [tt_i, hx])
  · rintro rfl; exact m4 (by simp [tt_i, hx])
  · rintro rfl; exact k3 hx
  · exact hu _ (by simp [tt_i, hx])
  · rintro rfl; exact m4 (by simp [tt_i, hx])
  · rintro rfl; exact k4 hx
  · exact hb _ fun q => k5 _ q hx
  · exact hu _ (by simp [tt_i, hx])
  · rintro rfl; exact n3 x (by simp [tt_i]) hx
  · rintro rfl; exact n3 x (by simp [tt_i]) hx
  · exact hb _ fun q => n3 x (by simp [tt_i, q]) hx
theorem tt_rotR {M M' : tt_M} {B : tt_C} {p r : Nat} {a b d : tt_T} (nd : (tt_i (tt_p B (.branch p (.branch r d b) a))).Nodup) (h : tt_H M (tt_p B (.branch p (.branch r d b) a)) none)
    (e1 : M' p (tt_r b) (tt_r a) (some r)) (e2 : M' r (tt_r d) (some p) (tt_u B)) (e3 : ∀ e l r', tt_r b = some e → M e l r' (some r) → M' e l r' (some p)) (e4 : tt_K0 M' (some r) B)
    (e5 : ∀ x, x ≠ p → x ≠ r → tt_r b ≠ some x → tt_u B ≠ some x → ∀ l r p, M x l r p → M' x l r p) : tt_H M' (tt_p B (.branch r d (.branch p b a))) none := by
  obtain ⟨n1, n2, n3⟩ := tt_nd nd
  obtain ⟨⟨h1, ⟨h3, h5, h4⟩, h2⟩, h6⟩ := (tt_H_p B _).mp h
  obtain ⟨m2, m1, m4, m3, m5⟩ := tt_nb n1
  obtain ⟨k2, k1, k4, k3, k5⟩ := tt_nb m2
  have hu : ∀ x, x ∈ tt_i (.branch p (.branch r d b) a) → tt_u B ≠ some x := fun x hx e => n3 x hx (tt_u_in e)
  have hb : ∀ x, x ∉ tt_i b → tt_r b ≠ some x := fun x hx e => hx (tt_r_in e)
  refine (tt_H_p B _).mpr ⟨⟨e2, tt_H_m (fun x hx => e5 x ?_ ?_ ?_ ?_) h5, ⟨e1, tt_rp k1 h4 e3 (fun x hx hn => e5 x ?_ ?_ hn ?_), tt_H_m (fun x hx => e5 x ?_ ?_ ?_ ?_) h2⟩⟩, tt_rk n2 h6 e4 (fun x hx hn => e5 x ?_ ?_ ?_ hn)⟩
  · rintro rfl; exact m4 (by simp [tt_i, hx])
  · rintro rfl; exact k4 hx
  · exact hb _ fun q => k5 _ hx q
  · exact hu _ (by simp [tt_i, hx])
  · rintro rfl; exact m4 (by simp [tt_i, hx])
  · rintro rfl; exact k3 hx
  · exact hu _ (by simp [tt_i, hx])
  · rintro rfl; exact m3 hx
  · rintro rfl; exact m5 x (by simp [tt_i]) hx
  · exact hb _ fun q => m5 x (by simp [tt_i, q]) hx
  · exact hu _ (by simp [tt_i, hx])
  · rintro rfl; exact n3 x (by simp [tt_i]) hx
  · rintro rfl; exact n3 x (by simp [tt_i]) hx
  · exact hb _ fun q => n3 x (by simp [tt_i, q]) hx
/-- a node with one child or none gives its place to it -/
theorem tt_delL {M M' : tt_M} {B : tt_C} {p : Nat} {a : tt_T} (nd : (tt_i (tt_p B (.branch p a tt_n))).Nodup) (h : tt_H M (tt_p B (.branch p a tt_n)) none)
    (e3 : ∀ e l r', tt_r a = some e → M e l r' (some p) → M' e l r' (tt_u B)) (e4 : tt_K0 M' (tt_r a) B)
    (e5 : ∀ x, x ≠ p → tt_r a ≠ some x → tt_u B ≠ some x → ∀ l r p, M x l r p → M' x l r p) : tt_H M' (tt_p B a) none := by
  obtain ⟨n1, n2, n3⟩ := tt_nd nd
  obtain ⟨⟨h1, h2, h3⟩, h6⟩ := (tt_H_p B _).mp h
  obtain ⟨m1, m2, m3, m4, m5⟩ := tt_nb n1
  refine (tt_H_p B _).mpr ⟨tt_rp m1 h2 e3 (fun x hx hn => e5 x ?_ hn ?_), tt_rk n2 h6 e4 (fun x hx hn => e5 x ?_ ?_ hn)⟩
  · rintro rfl; exact m3 hx
  · intro e; exact n3 x (by simp [tt_i, hx]) (tt_u_in e)
  · rintro rfl; exact n3 x (by simp [tt_i]) hx
  · intro e; exact n3 x (by simp [tt_i, tt_r_in e]) hx
theorem tt_delR {M M' : tt_M} {B : tt_C} {p : Nat} {a : tt_T} (nd : (tt_i (tt_p B (.branch p tt_n a))).Nodup) (h : tt_H M (tt_p B (.branch p tt_n a)) none)
    (e3 : ∀ e l r', tt_r a = some e → M e l r' (some p) → M' e l r' (tt_u B)) (e4 : tt_K0 M' (tt_r a) B)
    (e5 : ∀ x, x ≠ p → tt_r a ≠ some x → tt_u B ≠ some x → ∀ l r p, M x l r p → M' x l r p) : tt_H M' (tt_p B a) none := by
  obtain ⟨n1, n2, n3⟩ := tt_nd nd
  obtain ⟨⟨h1, h3, h2⟩, h6⟩ := (tt_H_p B _).mp h
  obtain ⟨m2, m1, m4, m3, m5⟩ := tt_nb n1
  refine (tt_H_p B _).mpr ⟨tt_rp m1 h2 e3 (fun x hx hn => e5 x ?_ hn ?_), tt_rk n2 h6 e4 (fun x hx hn => e5 x ?_ ?_ hn)⟩
  · rintro rfl; exact m3 hx
  · intro e; exact n3 x (by simp [tt_i, hx]) (tt_u_in e)
  · rintro rfl; exact n3 x (by simp [tt_i]) hx
  · intro e; exact n3 x (by simp [tt_i, tt_r_in e]) hx
/-- a new leaf's place -/
theorem tt_put {M M' : tt_M} {B : tt_C} {q : Nat} (nd : (tt_i (tt_p B tt_n)).Nodup) (hq : q ∉ tt_i (tt_p B tt_n)) (h : tt_H M (tt_p B tt_n) none)
    (e2 : M' q none none (tt_u B)) (e4 : tt_K0 M' (some q) B) (e5 : ∀ x, x ≠ q → tt_u B ≠ some x → ∀ l r p, M x l r p → M' x l r p) : tt_H M' (tt_p B (.branch q tt_n tt_n)) none := by
  obtain ⟨n1, n2, n3⟩ := tt_nd nd
  obtain ⟨-, h6⟩ := (tt_H_p B _).mp h
  refine (tt_H_p B _).mpr ⟨⟨e2, trivial, trivial⟩, tt_rk n2 h6 e4 (fun x hx hn => e5 x ?_ hn)⟩
  rintro rfl
  apply hq
  rw [tt_i_p]
  rcases tt_ic_m.mp hx with g | g <;> simp [g]
/-! keys in order -/
def tt_S (key : Nat → Int) (L : List Nat) : Prop := L.Pairwise (fun a b => key a < key b)
theorem tt_S_nd {key : Nat → Int} {L : List Nat} (h : tt_S key L) : L.Nodup := h.imp fun {a b} g e => by subst e; omega
/-- the key is searched in the hole: all left of it is less, all right of it greater -/
def tt_F (key : Nat → Int) (k : Int) (B : tt_C) : Prop := (∀ b ∈ tt_lc B, key b < k) ∧ ∀ b ∈ tt_rc B, k < key b
theorem tt_F_0 {key : Nat → Int} {k : Int} : tt_F key k [] := ⟨fun b h => by simp [tt_lc] at h, fun b h => by simp [tt_rc] at h⟩
theorem tt_S_b {key : Nat → Int} {B : tt_C} {a : Nat} {l r : tt_T} (h : tt_S key (tt_i (tt_p B (.branch a l r)))) : (∀ b ∈ tt_i l, key b < key a) ∧ ∀ b ∈ tt_i r, key a < key b := by
  unfold tt_S at h
  rw [tt_i_p] at h
  have h1 := ((List.pairwise_append.mp (List.pairwise_append.mp h).2.1).1)
  simp only [tt_i] at h1
  obtain ⟨g1, g2, g3⟩ := List.pairwise_append.mp h1
  exact ⟨fun b hb => g3 b hb a (by simp), fun b hb => (List.pairwise_cons.mp g2).1 b hb⟩
theorem tt_F_l {key : Nat → Int} {k : Int} {B : tt_C} {a : Nat} {l r : tt_T} (h : tt_S key (tt_i (tt_p B (.branch a l r)))) (hF : tt_F key k B) (hk : k < key a) : tt_F key k ((true, a, r) :: B) := by
  refine ⟨hF.1, fun b hb => ?_⟩
  simp only [tt_rc, List.mem_cons, List.mem_append] at hb
  rcases hb with rfl | hb | hb
  · exact hk
  · have := (tt_S_b h).2 b hb; omega
  · exact hF.2 b hb
theorem tt_F_r {key : Nat → Int} {k : Int} {B : tt_C} {a : Nat} {l r : tt_T} (h : tt_S key (tt_i (tt_p B (.branch a l r)))) (hF : tt_F key k B) (hk : key a < k) : tt_F key k ((false, a, l) :: B) := by
  refine ⟨fun b hb => ?_, hF.2⟩
  simp only [tt_lc, List.mem_append, List.mem_cons, List.not_mem_nil, or_false] at hb
  rcases hb with hb | hb | rfl
  · exact hF.1 b hb
  · have := (tt_S_b h).1 b hb; omega
  · exact hk
theorem tt_F_n {key : Nat → Int} {k : Int} {B : tt_C} (hF : tt_F key k B) : ∀ b ∈ tt_i (tt_p B tt_n), key b ≠ k := by
  intro b hb
  rw [tt_i_p] at hb
  simp only [tt_i, List.nil_append, List.mem_append] at hb
  rcases hb with hb | hb
  · have := hF.1 b hb; omega
  · have := hF.2 b hb; omega
theorem tt_F_p {key : Nat → Int} {B : tt_C} {q : Nat} (h : tt_S key (tt_i (tt_p B tt_n))) (hF : tt_F key (key q) B) : tt_S key (tt_i (tt_p B (.branch q tt_n tt_n))) := by
  unfold tt_S at h ⊢
  rw [tt_i_p] at h ⊢
  simp only [tt_i, List.nil_append, List.cons_append] at h ⊢
  obtain ⟨g1, g2, g3⟩ := List.pairwise_append.mp h
  refine List.pairwise_append.mpr ⟨g1, List.pairwise_cons.mpr ⟨hF.2, g2⟩, fun a ha b hb => ?_⟩
  rcases List.mem_cons.mp hb with rfl | hb
  · exact hF.1 a ha
  · exact g3 a ha b hb
/-! first and next -/
theorem tt_i_b {a : Nat} {l r : tt_T} : tt_i (.branch a l r) = tt_i l ++ a :: tt_i r := rfl
/-- a node's place, and a hole's, in the list of all -/
theorem tt_i_pb {B : tt_C} {a : Nat} {l r : tt_T} : tt_i (tt_p B (.branch a l r)) = (tt_lc B ++ tt_i l) ++ a :: (tt_i r ++ tt_rc B) := by rw [tt_i_p]; simp [tt_i]
theorem tt_mid {A A' C C' : List Nat} {x : Nat} (h : A ++ x :: C = A' ++ x :: C') (nd : (A ++ x :: C).Nodup) : A = A' ∧ C = C' := by
  induction A generalizing A' with
  | nil =>
    cases A' with
    | nil => simpa using h
    | cons y A' =>
      simp only [List.nil_append, List.cons_append, List.cons.injEq] at h
      obtain ⟨rfl, rfl⟩ := h
      exact absurd (by simp) (List.nodup_cons.mp nd).1
  | cons z A ih =>
    cases A' with
    | nil =>
      simp only [List.nil_append, List.cons_append, List.cons.injEq] at h
      obtain ⟨rfl, rfl⟩ := h
      exact absurd (by simp) (List.nodup_cons.mp nd).1
    | cons y A' =>
      simp only [List.cons_append, List.cons.injEq] at h
      obtain ⟨rfl, h⟩ := h
      obtain ⟨h1, h2⟩ := ih h (List.nodup_cons.mp nd).2
      exact ⟨by rw [h1], h2⟩
