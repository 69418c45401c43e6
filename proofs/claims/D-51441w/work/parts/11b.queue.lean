set_option maxRecDepth 100000
/-! THE PURE SIDE: a heap in a row -/
/-- i and j change places -/
def pq_x {α : Type} (g : Nat → α) (i j : Nat) : Nat → α := fun k => if k = i then g j else if k = j then g i else g k
def pq_H (v : Nat → Int) (n : Nat) : Prop := ∀ i, 0 < i → i < n → v ((i - 1) / 2) ≤ v i
theorem pq_H_0 {v : Nat → Int} {n : Nat} (h : pq_H v n) : ∀ i, i < n → v 0 ≤ v i := by
  intro i
  induction i using Nat.strongRecOn with
  | _ i ih =>
    intro hi
    rcases Nat.eq_zero_or_pos i with rfl | hp
    · exact Int.le_refl _
    · exact Int.le_trans (ih ((i - 1) / 2) (by omega) (by omega)) (h i hp hi)
/-- all is in order but k and what stands over it -/
def pq_U (v : Nat → Int) (n k : Nat) : Prop := (∀ i, 0 < i → i < n → i ≠ k → v ((i - 1) / 2) ≤ v i) ∧ (0 < k → ∀ i, 0 < i → i < n → (i - 1) / 2 = k → v ((k - 1) / 2) ≤ v i)
theorem pq_U_0 {v : Nat → Int} {n : Nat} (h : pq_H v n) {x : Int} : pq_U (fun i => if i = n then x else v i) (n + 1) n :=
  ⟨fun i h1 h2 h3 => by simp only [if_neg h3, if_neg (show ¬ (i - 1) / 2 = n by omega)]; exact h i h1 (by omega), fun h0 i h1 h2 h3 => by omega⟩
theorem pq_U_s {v : Nat → Int} {n k : Nat} (h : pq_U v n k) (hk : 0 < k) (hn : k < n) (hl : v k < v ((k - 1) / 2)) : pq_U (pq_x v k ((k - 1) / 2)) n ((k - 1) / 2) := by
  obtain ⟨h1, h2⟩ := h
  refine ⟨fun i i1 i2 i3 => ?_, fun p0 i i1 i2 i3 => ?_⟩
  · by_cases e : i = k
    · subst e
      simp only [pq_x, if_true, if_neg (show ¬ (i - 1) / 2 = i by omega)]
      omega
    · by_cases f : (i - 1) / 2 = k
      · simp only [pq_x, f, if_true, if_neg e, if_neg i3]
        exact h2 hk i i1 i2 f
      · by_cases g : (i - 1) / 2 = (k - 1) / 2
        · rw [g]
          simp only [pq_x, if_true, if_neg (show ¬ (k - 1) / 2 = k by omega), if_neg e, if_neg i3]
          have := h1 i i1 i2 e
          rw [g] at this
          omega
        · simp only [pq_x, if_neg f, if_neg g, if_neg e, if_neg i3]
          exact h1 i i1 i2 e
  · by_cases e : i = k
    · subst e
      simp only [pq_x, if_true, if_neg (show ¬ ((i - 1) / 2 - 1) / 2 = i by omega), if_neg (show ¬ ((i - 1) / 2 - 1) / 2 = (i - 1) / 2 by omega)]
      exact h1 _ p0 (by omega) (by omega)
    · simp only [pq_x, if_neg e, if_neg (show ¬ i = (k - 1) / 2 by omega), if_neg (show ¬ ((k - 1) / 2 - 1) / 2 = k by omega), if_neg (show ¬ ((k - 1) / 2 - 1) / 2 = (k - 1) / 2 by omega)]
      have a := h1 i i1 i2 e
      rw [i3] at a
      have b := h1 _ p0 (by omega) (by omega)
      omega
theorem pq_U_e {v : Nat → Int} {n k : Nat} (h : pq_U v n k) (hl : k = 0 ∨ v ((k - 1) / 2) ≤ v k) : pq_H v n := by
  intro i h1 h2
  by_cases e : i = k
  · subst e; rcases hl with hl | hl
    · omega
    · exact hl
  · exact h.1 i h1 h2 e
/-- all is in order but k and what stands under it -/
def pq_D (v : Nat → Int) (n k : Nat) : Prop := (∀ i, 0 < i → i < n → (i - 1) / 2 ≠ k → v ((i - 1) / 2) ≤ v i) ∧ (0 < k → ∀ i, 0 < i → i < n → (i - 1) / 2 = k → v ((k - 1) / 2) ≤ v i)
theorem pq_D_0 {v : Nat → Int} {n : Nat} (h : pq_H v n) {x : Int} {m : Nat} (hm : m ≤ n) : pq_D (fun i => if i = 0 then x else v i) m 0 :=
  ⟨fun i h1 h2 h3 => by simp only [if_neg (show ¬ i = 0 by omega), if_neg h3]; exact h i h1 (by omega), fun h0 => by omega⟩
theorem pq_D_s {v : Nat → Int} {n k j : Nat} (h : pq_D v n k) (hj : 0 < j) (hn : j < n) (hp : (j - 1) / 2 = k) (hm : ∀ i, 0 < i → i < n → (i - 1) / 2 = k → v j ≤ v i) (hl : v j < v k) : pq_D (pq_x v k j) n j := by
  obtain ⟨h1, h2⟩ := h
  refine ⟨fun i i1 i2 i3 => ?_, fun p0 i i1 i2 i3 => ?_⟩
  · by_cases e : i = j
    · subst e
      simp only [pq_x, hp, if_true, if_neg (show ¬ i = k by omega)]
      omega
    · by_cases f : i = k
      · subst f
        simp only [pq_x, if_true, if_neg i3, if_neg (show ¬ (i - 1) / 2 = i by omega)]
        have := h2 i1 j hj hn hp
        exact this
      · by_cases g : (i - 1) / 2 = k
        · simp only [pq_x, g, if_true, if_neg f, if_neg e]
          exact hm i i1 i2 g
        · simp only [pq_x, if_neg g, if_neg i3, if_neg f, if_neg e]
          exact h1 i i1 i2 g
  · simp only [pq_x, hp, if_true, if_neg (show ¬ i = k by omega), if_neg (show ¬ i = j by omega)]
    have := h1 i i1 i2 (by omega)
    rw [i3] at this
    exact this
theorem pq_D_e {v : Nat → Int} {n k : Nat} (h : pq_D v n k) (hl : ∀ i, 0 < i → i < n → (i - 1) / 2 = k → v k ≤ v i) : pq_H v n := by
  intro i h1 h2
  by_cases e : (i - 1) / 2 = k
  · rw [e]; exact hl i h1 h2 e
  · exact h.1 i h1 h2 e
/-- the first n are all different and just those of S -/
def pq_C (g : Nat → Nat) (n : Nat) (S : Nat → Prop) : Prop := (∀ x, S x ↔ ∃ i, i < n ∧ g i = x) ∧ ∀ i j, i < n → j < n → g i = g j → i = j
theorem pq_x_v {v : Nat → Int} {g : Nat → Nat} {i j : Nat} : pq_x (fun i => v (g i)) i j = fun k => v (pq_x g i j k) := by
  funext k
  simp only [pq_x]
  split
  · rfl
  · split <;> rfl
theorem pq_C_x {g : Nat → Nat} {n i j : Nat} {S : Nat → Prop} (h : pq_C g n S) (hi : i < n) (hj : j < n) : pq_C (pq_x g i j) n S := by
  obtain ⟨h1, h2⟩ := h
  have key : ∀ k, ∃ m, pq_x g i j k = g m ∧ (k < n → m < n) ∧ (m = if k = i then j else if k = j then i else k) := by
    intro k
    refine ⟨if k = i then j else if k = j then i else k, ?_, ?_, rfl⟩
    · simp only [pq_x]; split
      · rfl
      · split <;> rfl
    · intro hk; split
      · exact hj
      · split
        · exact hi
        · exact hk
  refine ⟨fun x => ⟨fun hx => ?_, fun ⟨k, hk, e⟩ => ?_⟩, fun a b ha hb e => ?_⟩
  · obtain ⟨k, hk, e⟩ := (h1 x).mp hx
    by_cases c1 : k = i
    · subst c1
      refine ⟨j, hj, ?_⟩
      unfold pq_x
      split
      · rename_i q; rw [q]; exact e
      · rw [if_pos rfl]; exact e
    · by_cases c2 : k = j
      · subst c2
        exact ⟨i, hi, by unfold pq_x; rw [if_pos rfl]; exact e⟩
      · exact ⟨k, hk, by simp only [pq_x]; rw [if_neg c1, if_neg c2]; exact e⟩
  · obtain ⟨m, hm, hl, -⟩ := key k
    exact (h1 x).mpr ⟨m, hl hk, hm ▸ e⟩
  · obtain ⟨m, hm, hl, em⟩ := key a
    obtain ⟨m', hm', hl', em'⟩ := key b
    have := h2 m m' (hl ha) (hl' hb) (by rw [← hm, ← hm', e])
    rw [em, em'] at this
    revert this
    repeat' split
    all_goals (intro this; omega)
/-- one more at the end -/
theorem pq_C_a {g : Nat → Nat} {n x : Nat} {S : Nat → Prop} (h : pq_C g n S) (hx : ¬ S x) : pq_C (fun i => if i = n then x else g i) (n + 1) (fun y => y = x ∨ S y) := by
  obtain ⟨h1, h2⟩ := h
  refine ⟨fun y => ⟨fun hy => ?_, fun ⟨k, hk, e⟩ => ?_⟩, fun a b ha hb e => ?_⟩
  · rcases hy with rfl | hy
    · exact ⟨n, by omega, if_pos rfl⟩
    · obtain ⟨i, hi, e⟩ := (h1 y).mp hy
      exact ⟨i, by omega, by show (if i = n then x else g i) = y; rw [if_neg (by omega)]; exact e⟩
  · dsimp only at e
    split at e
    · exact Or.inl e.symm
    · exact Or.inr ((h1 y).mpr ⟨k, by omega, e⟩)
  · dsimp only at e
    have hn : ∀ i, i < n → g i ≠ x := fun i hi e => hx ((h1 x).mpr ⟨i, hi, e⟩)
    by_cases c : a = n <;> by_cases d : b = n
    · omega
    · rw [if_pos c, if_neg d] at e; exact absurd e.symm (hn b (by omega))
    · rw [if_neg c, if_pos d] at e; exact absurd e (hn a (by omega))
    · rw [if_neg c, if_neg d] at e; exact h2 a b (by omega) (by omega) e
/-- the first one leaves, the last one takes its place -/
theorem pq_C_p {g : Nat → Nat} {n : Nat} {S : Nat → Prop} (h : pq_C g (n + 1) S) : pq_C (fun i => if i = 0 then g n else g i) n (fun y => S y ∧ y ≠ g 0) := by
  obtain ⟨h1, h2⟩ := h
  refine ⟨fun y => ⟨fun ⟨hy, hne⟩ => ?_, fun ⟨k, hk, e⟩ => ?_⟩, fun a b ha hb e => ?_⟩
  · obtain ⟨i, hi, e⟩ := (h1 y).mp hy
    by_cases c : i = n
    · subst c
      refine ⟨0, ?_, by show (if (0 : Nat) = 0 then g i else g 0) = y; rw [if_pos rfl]; exact e⟩
      rcases Nat.eq_zero_or_pos i with rfl | hp
      · exact absurd e.symm hne
      · exact hp
    · refine ⟨i, by omega, ?_⟩
      show (if i = 0 then g n else g i) = y
      rw [if_neg (fun z => hne (by rw [← e, z]))]
      exact e
  · dsimp only at e
    split at e
    · refine ⟨(h1 y).mpr ⟨n, by omega, e⟩, fun z => ?_⟩
      have := h2 n 0 (by omega) (by omega) (by rw [e, z]); omega
    · rename_i c
      refine ⟨(h1 y).mpr ⟨k, by omega, e⟩, fun z => ?_⟩
      have := h2 k 0 (by omega) (by omega) (by rw [e, z]); omega
  · dsimp only at e
    by_cases c : a = 0 <;> by_cases d : b = 0
    · omega
    · rw [if_pos c, if_neg d] at e; have := h2 n b (by omega) (by omega) e; omega
    · rw [if_neg c, if_pos d] at e; have := h2 a n (by omega) (by omega) e; omega
    · rw [if_neg c, if_neg d] at e; exact h2 a b (by omega) (by omega) e
