section
/-! the pure picture: N sizes, X nexts, A answers -/
def mm_up (f : Nat → Nat) (k v : Nat) : Nat → Nat := fun j => if j = k then v else f j
theorem mm_us {f : Nat → Nat} {k v : Nat} : mm_up f k v k = v := if_pos rfl
theorem mm_un {f : Nat → Nat} {k v j : Nat} (h : j ≠ k) : mm_up f k v j = f j := if_neg h
/-- the place after p under a letter -/
def mm_nx (X : Nat → Nat) (p l : Nat) : Nat := 6 * (p / 6) + X (2 * p + l)
/-- alike for all words of at most k letters -/
def mm_eq (X A : Nat → Nat) : Nat → Nat → Nat → Bool
  | 0, _, _ => true
  | k + 1, p, q => decide (A (2 * p) = A (2 * q)) && (decide (A (2 * p + 1) = A (2 * q + 1)) && (mm_eq X A k (mm_nx X p 0) (mm_nx X q 0) && mm_eq X A k (mm_nx X p 1) (mm_nx X q 1)))
theorem mm_eqS {X A : Nat → Nat} {k p q : Nat} : mm_eq X A (k + 1) p q = true ↔ A (2 * p) = A (2 * q) ∧ A (2 * p + 1) = A (2 * q + 1) ∧ mm_eq X A k (mm_nx X p 0) (mm_nx X q 0) = true ∧ mm_eq X A k (mm_nx X p 1) (mm_nx X q 1) = true := by
  simp only [mm_eq, Bool.and_eq_true, decide_eq_true_eq]
theorem mm_refl (X A : Nat → Nat) : ∀ k p, mm_eq X A k p p = true := by
  intro k
  induction k with
  | zero => intro p; rfl
  | succ k ih => intro p; exact mm_eqS.mpr ⟨rfl, rfl, ih _, ih _⟩
theorem mm_symm {X A : Nat → Nat} : ∀ k p q, mm_eq X A k p q = true → mm_eq X A k q p = true := by
  intro k
  induction k with
  | zero => intro p q _; rfl
  | succ k ih =>
    intro p q h
    obtain ⟨a, b, c, d⟩ := mm_eqS.mp h
    exact mm_eqS.mpr ⟨a.symm, b.symm, ih _ _ c, ih _ _ d⟩
theorem mm_trans {X A : Nat → Nat} : ∀ k p q r, mm_eq X A k p q = true → mm_eq X A k q r = true → mm_eq X A k p r = true := by
  intro k
  induction k with
  | zero => intro p q r _ _; rfl
  | succ k ih =>
    intro p q r h h'
    obtain ⟨a, b, c, d⟩ := mm_eqS.mp h
    obtain ⟨a', b', c', d'⟩ := mm_eqS.mp h'
    exact mm_eqS.mpr ⟨a.trans a', b.trans b', ih _ _ _ c c', ih _ _ _ d d'⟩
theorem mm_mono {X A : Nat → Nat} : ∀ k p q, mm_eq X A (k + 1) p q = true → mm_eq X A k p q = true := by
  intro k
  induction k with
  | zero => intro p q _; rfl
  | succ k ih =>
    intro p q h
    obtain ⟨a, b, c, d⟩ := mm_eqS.mp h
    exact mm_eqS.mpr ⟨a, b, ih _ _ c, ih _ _ d⟩
theorem mm_le {X A : Nat → Nat} {p q j : Nat} : ∀ k, j ≤ k → mm_eq X A k p q = true → mm_eq X A j p q = true := by
  intro k
  induction k with
  | zero =>
    intro h e
    have : j = 0 := by omega
    rw [this]; rfl
  | succ k ih =>
    intro h e
    by_cases z : j = k + 1
    · rw [z]; exact e
    · exact ih (by omega) (mm_mono k p q e)
/-- what the table holds behind j rounds -/
def mm_D (X A : Nat → Nat) (j p q t : Nat) : Prop := (t = 0 ∧ mm_eq X A j p q = true) ∨ (1 ≤ t ∧ t ≤ j ∧ mm_eq X A (t - 1) p q = true ∧ ¬ mm_eq X A t p q = true)
theorem mm_D_le {X A : Nat → Nat} {j p q t : Nat} (h : mm_D X A j p q t) : t ≤ j := by
  rcases h with h | h
  · omega
  · exact h.2.1
theorem mm_D0 {X A : Nat → Nat} {j p q t : Nat} (h : mm_D X A j p q t) : t = 0 ↔ mm_eq X A j p q = true := by
  rcases h with ⟨h, e⟩ | ⟨h1, h2, h3, h4⟩
  · exact ⟨fun _ => e, fun _ => h⟩
  · exact ⟨fun z => absurd z (by omega), fun z => absurd (mm_le j h2 z) h4⟩
theorem mm_D_at {X A : Nat → Nat} {j p q t L : Nat} (h : mm_D X A j p q t) (hL : L ≤ j) (h1 : 1 ≤ L) (e : mm_eq X A (L - 1) p q = true) : t = L ↔ ¬ mm_eq X A L p q = true := by
  rcases h with ⟨h, e'⟩ | ⟨g1, g2, g3, g4⟩
  · exact ⟨fun z => absurd z (by omega), fun z => absurd (mm_le j hL e') z⟩
  · constructor
    · intro z
      rw [← z]; exact g4
    · intro z
      rcases Nat.lt_trichotomy t L with c | c | c
      · exact absurd (mm_le (L - 1) (by omega) e) g4
      · exact c
      · exact absurd (mm_le (t - 1) (by omega) g3) z
/-- one round more -/
theorem mm_go {X A : Nat → Nat} {L p q : Nat} (hL : 1 ≤ L) (h : mm_eq X A L p q = true) : ¬ mm_eq X A (L + 1) p q = true ↔ (¬ mm_eq X A L (mm_nx X p 0) (mm_nx X q 0) = true ∨ ¬ mm_eq X A L (mm_nx X p 1) (mm_nx X q 1) = true) := by
  obtain ⟨k, rfl⟩ : ∃ k, L = k + 1 := ⟨L - 1, by omega⟩
  obtain ⟨a, b, _, _⟩ := mm_eqS.mp h
  rw [mm_eqS (k := k + 1)]
  constructor
  · intro z
    by_cases c : mm_eq X A (k + 1) (mm_nx X p 0) (mm_nx X q 0) = true
    · right
      intro d
      exact z ⟨a, b, c, d⟩
    · exact .inl c
  · intro z w
    rcases z with z | z
    · exact z w.2.2.1
    · exact z w.2.2.2
theorem mm_down {X A : Nat → Nat} {L p q l : Nat} (hL : 1 ≤ L) (hl : l < 2) (h : mm_eq X A L p q = true) : mm_eq X A (L - 1) (mm_nx X p l) (mm_nx X q l) = true := by
  obtain ⟨k, rfl⟩ : ∃ k, L = k + 1 := ⟨L - 1, by omega⟩
  obtain ⟨a, b, c, d⟩ := mm_eqS.mp h
  have hl' : l = 0 ∨ l = 1 := by omega
  rcases hl' with rfl | rfl
  · exact c
  · exact d
/-- a map that keeps answers and goes along with the letters keeps likeness -/
theorem mm_sim {X A X' A' : Nat → Nat} {f : Nat → Nat} {P : Nat → Prop} (hA : ∀ p l, P p → l < 2 → A' (2 * f p + l) = A (2 * p + l)) (hX : ∀ p l, P p → l < 2 → mm_nx X' (f p) l = f (mm_nx X p l)) (hP : ∀ p l, P p → l < 2 → P (mm_nx X p l)) : ∀ k p q, P p → P q → mm_eq X' A' k (f p) (f q) = mm_eq X A k p q := by
  intro k
  induction k with
  | zero => intro p q _ _; rfl
  | succ k ih =>
    intro p q hp hq
    have a0 : A' (2 * f p) = A (2 * p) := hA p 0 hp (by decide)
    have a1 : A' (2 * f p + 1) = A (2 * p + 1) := hA p 1 hp (by decide)
    have b0 : A' (2 * f q) = A (2 * q) := hA q 0 hq (by decide)
    have b1 : A' (2 * f q + 1) = A (2 * q + 1) := hA q 1 hq (by decide)
    have c0 := ih _ _ (hP p 0 hp (by decide)) (hP q 0 hq (by decide))
    have c1 := ih _ _ (hP p 1 hp (by decide)) (hP q 1 hq (by decide))
    simp only [mm_eq, a0, a1, b0, b1, hX p 0 hp (by decide), hX p 1 hp (by decide), hX q 0 hq (by decide), hX q 1 hq (by decide), c0, c1]
theorem mm_bis {X A : Nat → Nat} {f : Nat → Nat} {P : Nat → Prop} (hA : ∀ p l, P p → l < 2 → A (2 * f p + l) = A (2 * p + l)) (hX : ∀ p l, P p → l < 2 → mm_nx X (f p) l = f (mm_nx X p l)) (hP : ∀ p l, P p → l < 2 → P (mm_nx X p l)) : ∀ k p, P p → mm_eq X A k p (f p) = true := by
  intro k
  induction k with
  | zero => intro p _; rfl
  | succ k ih =>
    intro p hp
    refine mm_eqS.mpr ⟨(hA p 0 hp (by decide)).symm, (hA p 1 hp (by decide)).symm, ?_, ?_⟩
    · rw [hX p 0 hp (by decide)]
      exact ih _ (hP p 0 hp (by decide))
    · rw [hX p 1 hp (by decide)]
      exact ih _ (hP p 1 hp (by decide))
theorem mm_all {X A : Nat → Nat} {P : Nat → Prop} (hA : ∀ p l, P p → l < 2 → A (2 * p + l) = 0) (hP : ∀ p l, P p → l < 2 → P (mm_nx X p l)) : ∀ k p q, P p → P q → mm_eq X A k p q = true := by
  intro k
  induction k with
  | zero => intro p q _ _; rfl
  | succ k ih =>
    intro p q hp hq
    have a0 : A (2 * p) = 0 := hA p 0 hp (by decide)
    have a1 : A (2 * p + 1) = 0 := hA p 1 hp (by decide)
    have b0 : A (2 * q) = 0 := hA q 0 hq (by decide)
    have b1 : A (2 * q + 1) = 0 := hA q 1 hq (by decide)
    exact mm_eqS.mpr ⟨by rw [a0, b0], by rw [a1, b1], ih _ _ (hP p 0 hp (by decide)) (hP q 0 hq (by decide)), ih _ _ (hP p 1 hp (by decide)) (hP q 1 hq (by decide))⟩
/-! counting -/
def mm_cn (P : Nat → Bool) : Nat → Nat
  | 0 => 0
  | n + 1 => mm_cn P n + (if P n = true then 1 else 0)
theorem mm_cn_le (P : Nat → Bool) : ∀ n, mm_cn P n ≤ n := by
  intro n
  induction n with
  | zero => exact Nat.le_refl 0
  | succ n ih =>
    show mm_cn P n + (if P n = true then 1 else 0) ≤ n + 1
    split <;> omega
theorem mm_cn_mono {P P' : Nat → Bool} : ∀ n, (∀ j, j < n → P j = true → P' j = true) → mm_cn P n ≤ mm_cn P' n := by
  intro n
  induction n with
  | zero => intro _; exact Nat.le_refl 0
  | succ n ih =>
    intro h
    have h1 := ih (fun j hj => h j (by omega))
    have h2 := h n (by omega)
    show mm_cn P n + (if P n = true then 1 else 0) ≤ mm_cn P' n + (if P' n = true then 1 else 0)
    by_cases c : P n = true
    · rw [if_pos c, if_pos (h2 c)]; omega
    · rw [if_neg c]; omega
theorem mm_cn_lt {P P' : Nat → Bool} {k : Nat} : ∀ n, (∀ j, j < n → P j = true → P' j = true) → k < n → P k = false → P' k = true → mm_cn P n + 1 ≤ mm_cn P' n := by
  intro n
  induction n with
  | zero => intro _ hk; omega
  | succ n ih =>
    intro h hk h0 h1
    show mm_cn P n + (if P n = true then 1 else 0) + 1 ≤ mm_cn P' n + (if P' n = true then 1 else 0)
    by_cases z : k = n
    · subst z
      have h2 := mm_cn_mono (P := P) (P' := P') k (fun j hj => h j (by omega))
      rw [if_pos h1, if_neg (by rw [h0]; decide)]
      omega
    · have h2 := ih (fun j hj => h j (by omega)) (by omega) h0 h1
      have h3 := h n (by omega)
      by_cases c : P n = true
      · rw [if_pos c, if_pos (h3 c)]; omega
      · rw [if_neg c]; omega
theorem mm_cn_full {P : Nat → Bool} {k n : Nat} (hk : k < n) (h0 : P k = false) : mm_cn P n < n := by
  have h := mm_cn_lt (P := P) (P' := fun _ => true) n (fun _ _ _ => rfl) hk h0 rfl
  have h' := mm_cn_le (fun _ => true) n
  omega
/-- pigeonhole -/
theorem mm_pig {R : Nat → Nat → Prop} : ∀ (l l' : List Nat), l.Nodup → (∀ a, a ∈ l → ∃ b, b ∈ l' ∧ R a b) → (∀ a a' b, a ∈ l → a' ∈ l → R a b → R a' b → a = a') → l.length ≤ l'.length := by
  intro l
  induction l with
  | nil => intro l' _ _ _; exact Nat.zero_le _
  | cons x l ih =>
    intro l' hn h hi
    obtain ⟨b, hb, hr⟩ := h x (List.mem_cons_self ..)
    rw [List.nodup_cons] at hn
    have h1 := ih (l'.erase b) hn.2 (fun a ha => by
      obtain ⟨b', hb', hr'⟩ := h a (List.mem_cons_of_mem _ ha)
      refine ⟨b', (List.mem_erase_of_ne ?_).mpr hb', hr'⟩
      intro z
      subst z
      have e := hi x a b' (List.mem_cons_self ..) (List.mem_cons_of_mem _ ha) hr hr'
      subst e
      exact hn.1 ha) (fun a a' c ha ha' => hi a a' c (List.mem_cons_of_mem _ ha) (List.mem_cons_of_mem _ ha'))
    rw [List.length_erase_of_mem hb] at h1
    have h2 : 0 < l'.length := List.length_pos_of_mem hb
    rw [List.length_cons]
    omega
/-! classes -/
def mm_fr (e : Nat → Nat → Bool) (s : Nat) : Nat → Bool
  | 0 => true
  | r + 1 => mm_fr e s r && !(e r s)
def mm_cl (e : Nat → Nat → Bool) : Nat → Nat
  | 0 => 0
  | s + 1 => mm_cl e s + (if mm_fr e s s = true then 1 else 0)
theorem mm_fr_iff {e : Nat → Nat → Bool} {s : Nat} : ∀ r, mm_fr e s r = true ↔ ∀ i, i < r → e i s = false := by
  intro r
  induction r with
  | zero => exact ⟨fun _ i hi => absurd hi (by omega), fun _ => rfl⟩
  | succ r ih =>
    show (mm_fr e s r && !(e r s)) = true ↔ _
    rw [Bool.and_eq_true, ih, Bool.not_eq_true']
    constructor
    · intro h i hi
      by_cases z : i = r
      · rw [z]; exact h.2
      · exact h.1 i (by omega)
    · intro h
      exact ⟨fun i hi => h i (by omega), h r (by omega)⟩
theorem mm_cl_list (e : Nat → Nat → Bool) : ∀ n, mm_cl e n = ((List.range n).filter (fun s => mm_fr e s s)).length := by
  intro n
  induction n with
  | zero => rfl
  | succ n ih =>
    rw [List.range_succ, List.filter_append, List.length_append, ← ih]
    show mm_cl e n + (if mm_fr e n n = true then 1 else 0) = _
    by_cases c : mm_fr e n n = true
    · rw [if_pos c, List.filter_cons_of_pos (p := fun s => mm_fr e s s) c]; rfl
    · rw [if_neg c, List.filter_cons_of_neg (p := fun s => mm_fr e s s) c]; rfl
theorem mm_cl_le {n : Nat} {e e' : Nat → Nat → Bool} {f : Nat → Nat} (hf : ∀ s, s < n → f s < n) (h : ∀ s t, s < n → t < n → e' (f s) (f t) = e s t) (hr : ∀ s, s < n → e' s s = true) (hs : ∀ s t, e' s t = true → e' t s = true) (ht : ∀ r s t, e' r s = true → e' s t = true → e' r t = true) : mm_cl e n ≤ mm_cl e' n := by
  rw [mm_cl_list, mm_cl_list]
  refine mm_pig (R := fun s t => e' t (f s) = true) _ _ (List.Nodup.sublist List.filter_sublist List.nodup_range) ?_ ?_
  · intro a ha
    have ha' := List.mem_filter.mp ha
    have hn := List.mem_range.mp ha'.1
    obtain ⟨t, t1, t2⟩ := pk_least (fun t => e' t (f a) = true) ⟨f a, hr _ (hf a hn)⟩
    have hle : t ≤ f a := by
      rcases Nat.lt_or_ge (f a) t with z | z
      · exact absurd (hr _ (hf a hn)) (t2 _ z)
      · exact z
    have hfa := hf a hn
    refine ⟨t, List.mem_filter.mpr ⟨List.mem_range.mpr (by omega), (mm_fr_iff t).mpr (fun i hi => ?_)⟩, t1⟩
    cases c : e' i t with
    | false => rfl
    | true => exact absurd (ht _ _ _ c t1) (t2 i hi)
  · intro a a' b ha ha' h1 h2
    have g := List.mem_filter.mp ha
    have g' := List.mem_filter.mp ha'
    have n1 := List.mem_range.mp g.1
    have n2 := List.mem_range.mp g'.1
    have h1' : e' b (f a) = true := h1
    have h2' : e' b (f a') = true := h2
    have c1 : e a a' = true := by rw [← h a a' n1 n2]; exact ht _ _ _ (hs _ _ h1') h2'
    have c2 : e a' a = true := by rw [← h a' a n2 n1]; exact ht _ _ _ (hs _ _ h2') h1'
    rcases Nat.lt_trichotomy a a' with z | z | z
    · have := (mm_fr_iff a').mp g'.2 a z
      rw [c1] at this; cases this
    · exact z
    · have := (mm_fr_iff a).mp g.2 a' z
      rw [c2] at this; cases this
theorem mm_cl_eq {n : Nat} {e e' : Nat → Nat → Bool} {f g : Nat → Nat} (hf : ∀ s, s < n → f s < n) (hg : ∀ s, s < n → g s < n) (hfg : ∀ s, s < n → f (g s) = s) (h : ∀ s t, s < n → t < n → e' (f s) (f t) = e s t) (hr : ∀ s, s < n → e s s = true) (hs : ∀ s t, e s t = true → e t s = true) (ht : ∀ r s t, e r s = true → e s t = true → e r t = true) (hr' : ∀ s, s < n → e' s s = true) (hs' : ∀ s t, e' s t = true → e' t s = true) (ht' : ∀ r s t, e' r s = true → e' s t = true → e' r t = true) : mm_cl e' n = mm_cl e n := by
  refine Nat.le_antisymm ?_ (mm_cl_le hf h hr' hs' ht')
  refine mm_cl_le (f := g) hg (fun s t h1 h2 => ?_) hr hs ht
  rw [← h (g s) (g t) (hg s h1) (hg t h2), hfg s h1, hfg t h2]
end
section
/-! core: numbering of classes by breadth first; a state (cores, class + 1 or 0, leaders) -/
def mm_ad (n : Nat) (e : Nat → Nat → Bool) (z : Nat × (Nat → Nat) × (Nat → Nat)) (s : Nat) : Nat × (Nat → Nat) × (Nat → Nat) := (z.1 + 1, (fun t => if t < n ∧ e s t = true then z.1 + 1 else z.2.1 t), mm_up z.2.2 z.1 s)
def mm_st (n : Nat) (nx : Nat → Nat → Nat) (e : Nat → Nat → Bool) (z : Nat × (Nat → Nat) × (Nat → Nat)) (k l : Nat) : Nat × (Nat → Nat) × (Nat → Nat) := if z.2.1 (nx (z.2.2 k) l) = 0 then mm_ad n e z (nx (z.2.2 k) l) else z
def mm_co (n : Nat) (nx : Nat → Nat → Nat) (e : Nat → Nat → Bool) : Nat → Nat → Nat × (Nat → Nat) × (Nat → Nat) → Nat
  | 0, _, z => z.1
  | j + 1, k, z => if z.1 ≤ k then z.1 else mm_co n nx e j (k + 1) (mm_st n nx e (mm_st n nx e z k 0) k 1)
def mm_core (n : Nat) (nx : Nat → Nat → Nat) (e : Nat → Nat → Bool) : Nat := mm_co n nx e 6 0 (mm_ad n e (0, fun _ => 0, fun _ => 0) 0)
/-- the local views of machine m -/
def mm_lx (X : Nat → Nat) (m n : Nat) : Nat → Nat → Nat := fun s l => if s < n ∧ l < 2 then X (12 * m + 2 * s + l) else 0
def mm_lq (X A : Nat → Nat) (m n : Nat) : Nat → Nat → Bool := fun s t => decide (s < n ∧ t < n) && mm_eq X A 11 (6 * m + s) (6 * m + t)
theorem mm_lx_in {X : Nat → Nat} {m n s l : Nat} (hs : s < n) (hl : l < 2) : mm_lx X m n s l = X (12 * m + 2 * s + l) := if_pos ⟨hs, hl⟩
theorem mm_lq_in {X A : Nat → Nat} {m n s t : Nat} (hs : s < n) (ht : t < n) : mm_lq X A m n s t = mm_eq X A 11 (6 * m + s) (6 * m + t) := by
  show (decide (s < n ∧ t < n) && mm_eq X A 11 (6 * m + s) (6 * m + t)) = _
  rw [decide_eq_true (show s < n ∧ t < n from ⟨hs, ht⟩), Bool.true_and]
theorem mm_lq_t {X A : Nat → Nat} {m n s t : Nat} : mm_lq X A m n s t = true ↔ (s < n ∧ t < n) ∧ mm_eq X A 11 (6 * m + s) (6 * m + t) = true := by
  show (decide (s < n ∧ t < n) && mm_eq X A 11 (6 * m + s) (6 * m + t)) = true ↔ _
  rw [Bool.and_eq_true, decide_eq_true_eq]
theorem mm_lq_refl {X A : Nat → Nat} {m n : Nat} : ∀ s, s < n → mm_lq X A m n s s = true := fun s hs => mm_lq_t.mpr ⟨⟨hs, hs⟩, mm_refl X A 11 _⟩
theorem mm_lq_symm {X A : Nat → Nat} {m n : Nat} : ∀ s t, mm_lq X A m n s t = true → mm_lq X A m n t s = true := fun s t h => mm_lq_t.mpr ⟨⟨(mm_lq_t.mp h).1.2, (mm_lq_t.mp h).1.1⟩, mm_symm 11 _ _ (mm_lq_t.mp h).2⟩
theorem mm_lq_trans {X A : Nat → Nat} {m n : Nat} : ∀ r s t, mm_lq X A m n r s = true → mm_lq X A m n s t = true → mm_lq X A m n r t = true := fun r s t h g => mm_lq_t.mpr ⟨⟨(mm_lq_t.mp h).1.1, (mm_lq_t.mp g).1.2⟩, mm_trans 11 _ _ _ (mm_lq_t.mp h).2 (mm_lq_t.mp g).2⟩
theorem mm_lx_eq {X X' : Nat → Nat} {m m' n : Nat} (h : ∀ s l, s < n → l < 2 → X' (12 * m' + 2 * s + l) = X (12 * m + 2 * s + l)) : mm_lx X' m' n = mm_lx X m n := by
  funext s l
  show (if s < n ∧ l < 2 then X' (12 * m' + 2 * s + l) else 0) = (if s < n ∧ l < 2 then X (12 * m + 2 * s + l) else 0)
  by_cases c : s < n ∧ l < 2
  · rw [if_pos c, if_pos c, h s l c.1 c.2]
  · rw [if_neg c, if_neg c]
theorem mm_lq_eq {X A X' A' : Nat → Nat} {m m' n : Nat} (h : ∀ s t, s < n → t < n → mm_eq X' A' 11 (6 * m' + s) (6 * m' + t) = mm_eq X A 11 (6 * m + s) (6 * m + t)) : mm_lq X' A' m' n = mm_lq X A m n := by
  funext s t
  by_cases c : s < n ∧ t < n
  · rw [mm_lq_in c.1 c.2, mm_lq_in c.1 c.2, h s t c.1 c.2]
  · show (decide (s < n ∧ t < n) && mm_eq X' A' 11 (6 * m' + s) (6 * m' + t)) = (decide (s < n ∧ t < n) && mm_eq X A 11 (6 * m + s) (6 * m + t))
    rw [decide_eq_false c, Bool.false_and, Bool.false_and]
/-! reset: sets as words of 6 bits; a state (queued, queue, words) -/
def mm_tg (nx : Nat → Nat → Nat) (S l : Nat) : Nat → Nat
  | 0 => 0
  | s + 1 => if S.testBit s = true then mm_tg nx S l s ||| (1 <<< nx s l) else mm_tg nx S l s
def mm_rt (n : Nat) (nx : Nat → Nat → Nat) (z : Nat × (Nat → Nat) × (Nat → Nat)) (S l : Nat) : Nat × (Nat → Nat) × (Nat → Nat) := if z.2.2 S < 2048 ∧ z.2.2 (mm_tg nx S l n) = 0 then (z.1 + 1, mm_up z.2.1 z.1 (mm_tg nx S l n), mm_up z.2.2 (mm_tg nx S l n) (2 * z.2.2 S + l)) else z
def mm_rl (n : Nat) (nx : Nat → Nat → Nat) : Nat → Nat → Nat × (Nat → Nat) × (Nat → Nat) → Nat
  | 0, _, _ => 0
  | j + 1, i, z => if z.1 ≤ i then 0 else if z.2.1 i &&& (z.2.1 i - 1) = 0 then z.2.2 (z.2.1 i) else mm_rl n nx j (i + 1) (mm_rt n nx (mm_rt n nx z (z.2.1 i) 0) (z.2.1 i) 1)
def mm_reset (n : Nat) (nx : Nat → Nat → Nat) : Nat := mm_rl n nx 64 0 (1, mm_up (fun _ => 0) 0 (2 ^ n - 1), mm_up (fun _ => 0) (2 ^ n - 1) 1)
theorem mm_tg_bit {nx : Nat → Nat → Nat} {S l j : Nat} : ∀ k, (mm_tg nx S l k).testBit j = true ↔ ∃ s, s < k ∧ S.testBit s = true ∧ nx s l = j := by
  intro k
  induction k with
  | zero =>
    show (0 : Nat).testBit j = true ↔ _
    rw [Nat.zero_testBit]
    exact ⟨fun h => absurd h (by decide), fun ⟨s, hs, _⟩ => absurd hs (by omega)⟩
  | succ k ih =>
    show (if S.testBit k = true then mm_tg nx S l k ||| (1 <<< nx k l) else mm_tg nx S l k).testBit j = true ↔ _
    by_cases c : S.testBit k = true
    · rw [if_pos c, Nat.testBit_or, Bool.or_eq_true, ih, Nat.one_shiftLeft, Nat.testBit_two_pow, decide_eq_true_eq]
      constructor
      · rintro (⟨s, h1, h2, h3⟩ | h)
        · exact ⟨s, by omega, h2, h3⟩
        · exact ⟨k, by omega, c, h⟩
      · rintro ⟨s, h1, h2, h3⟩
        by_cases z : s = k
        · subst z; exact .inr h3
        · exact .inl ⟨s, by omega, h2, h3⟩
    · rw [if_neg c, ih]
      constructor
      · rintro ⟨s, h1, h2, h3⟩
        exact ⟨s, by omega, h2, h3⟩
      · rintro ⟨s, h1, h2, h3⟩
        refine ⟨s, ?_, h2, h3⟩
        have : s ≠ k := fun z => c (z ▸ h2)
        omega
theorem mm_tg_lt {nx : Nat → Nat → Nat} {S l n : Nat} : ∀ k, (∀ s, s < k → nx s l < n) → mm_tg nx S l k < 2 ^ n := by
  intro k
  induction k with
  | zero => intro _; exact Nat.two_pow_pos n
  | succ k ih =>
    intro h
    have h1 := ih (fun s hs => h s (by omega))
    show (if S.testBit k = true then mm_tg nx S l k ||| (1 <<< nx k l) else mm_tg nx S l k) < 2 ^ n
    by_cases c : S.testBit k = true
    · rw [if_pos c, Nat.one_shiftLeft]
      exact Nat.or_lt_two_pow h1 (Nat.pow_lt_pow_right (by decide) (h k (by omega)))
    · rw [if_neg c]; exact h1
/-- the image of a set under a turn by b -/
def mm_ph (n b S : Nat) : Nat := mm_tg (fun s _ => (s + b) % n) S 0 n
theorem mm_ph_tg {nx nx' : Nat → Nat → Nat} {n b S l : Nat} (hn : 0 < n) (h : ∀ s, s < n → nx s l < n) (hc : ∀ s, s < n → nx' ((s + b) % n) l = (nx s l + b) % n) : mm_tg nx' (mm_ph n b S) l n = mm_ph n b (mm_tg nx S l n) := by
  apply Nat.eq_of_testBit_eq
  intro j
  apply Bool.eq_iff_iff.mpr
  rw [mm_tg_bit, show mm_ph n b (mm_tg nx S l n) = mm_tg (fun s _ => (s + b) % n) (mm_tg nx S l n) 0 n from rfl, mm_tg_bit]
  constructor
  · rintro ⟨t, h1, h2, h3⟩
    rw [show mm_ph n b S = mm_tg (fun s _ => (s + b) % n) S 0 n from rfl, mm_tg_bit] at h2
    obtain ⟨s, g1, g2, g3⟩ := h2
    have g3' : (s + b) % n = t := g3
    refine ⟨nx s l, h s g1, (mm_tg_bit n).mpr ⟨s, g1, g2, rfl⟩, ?_⟩
    show (nx s l + b) % n = j
    rw [← hc s g1, g3', h3]
  · rintro ⟨t, h1, h2, h3⟩
    rw [mm_tg_bit] at h2
    obtain ⟨s, g1, g2, g3⟩ := h2
    refine ⟨(s + b) % n, Nat.mod_lt _ hn, (mm_tg_bit n).mpr ⟨s, g1, g2, rfl⟩, ?_⟩
    rw [hc s g1, g3]
    exact h3
def mm_tb (n b S : Nat) : Bool := decide (mm_ph n b S < 2 ^ n) && (decide (mm_tg (fun s _ => (s + (n - b % n)) % n) (mm_ph n b S) 0 n = S) && (decide (mm_ph n b S &&& (mm_ph n b S - 1) = 0) == decide (S &&& (S - 1) = 0)))
theorem mm_tb_all : ∀ n, n < 7 → 1 ≤ n → ∀ b, b < 6 → ∀ S, S < 2 ^ n → mm_tb n b S = true := by decide +kernel
theorem mm_ph_tab (n : Nat) (hn : n < 7) (h1 : 1 ≤ n) (b : Nat) (hb : b < 6) (S : Nat) (hS : S < 2 ^ n) : mm_ph n b S < 2 ^ n ∧ mm_tg (fun s _ => (s + (n - b % n)) % n) (mm_ph n b S) 0 n = S ∧ ((mm_ph n b S &&& (mm_ph n b S - 1) = 0) ↔ (S &&& (S - 1) = 0)) := by
  have h := mm_tb_all n hn h1 b hb S hS
  unfold mm_tb at h
  rw [Bool.and_eq_true, Bool.and_eq_true, decide_eq_true_eq, decide_eq_true_eq, beq_iff_eq, decide_eq_decide] at h
  exact h
theorem mm_ph_all : ∀ n, n < 7 → 1 ≤ n → ∀ b, b < 6 → mm_ph n b (2 ^ n - 1) = 2 ^ n - 1 := by decide +kernel
theorem mm_ph_inj {n b S S' : Nat} (hn : n < 7) (h1 : 1 ≤ n) (hb : b < 6) (hS : S < 2 ^ n) (hS' : S' < 2 ^ n) (h : mm_ph n b S = mm_ph n b S') : S = S' := by
  rw [← (mm_ph_tab n hn h1 b hb S hS).2.1, ← (mm_ph_tab n hn h1 b hb S' hS').2.1, h]
def mm_rel (n b : Nat) (z z' : Nat × (Nat → Nat) × (Nat → Nat)) : Prop := z'.1 = z.1 ∧ (∀ i, i < z.1 → z.2.1 i < 2 ^ n ∧ z'.2.1 i = mm_ph n b (z.2.1 i)) ∧ (∀ S, S < 2 ^ n → z'.2.2 (mm_ph n b S) = z.2.2 S)
theorem mm_rel_st {nx nx' : Nat → Nat → Nat} {n b S l : Nat} {z z' : Nat × (Nat → Nat) × (Nat → Nat)} (hn : n < 7) (h1 : 1 ≤ n) (hb : b < 6) (h : ∀ s, s < n → nx s l < n) (hc : ∀ s, s < n → nx' ((s + b) % n) l = (nx s l + b) % n) (hS : S < 2 ^ n) (hr : mm_rel n b z z') : mm_rel n b (mm_rt n nx z S l) (mm_rt n nx' z' (mm_ph n b S) l) := by
  obtain ⟨r1, r2, r3⟩ := hr
  have hT : mm_tg nx S l n < 2 ^ n := mm_tg_lt n h
  have e : mm_tg nx' (mm_ph n b S) l n = mm_ph n b (mm_tg nx S l n) := mm_ph_tg h1 h hc
  unfold mm_rt
  rw [e, r3 S hS, r3 _ hT]
  by_cases c : z.2.2 S < 2048 ∧ z.2.2 (mm_tg nx S l n) = 0
  · rw [if_pos c, if_pos c]
    refine ⟨by show z'.1 + 1 = z.1 + 1; rw [r1], fun i hi => ?_, fun S' hS' => ?_⟩
    · have hi' : i < z.1 + 1 := hi
      show mm_up z.2.1 z.1 (mm_tg nx S l n) i < 2 ^ n ∧ mm_up z'.2.1 z'.1 (mm_ph n b (mm_tg nx S l n)) i = mm_ph n b (mm_up z.2.1 z.1 (mm_tg nx S l n) i)
      rw [r1]
      by_cases d : i = z.1
      · rw [d, mm_us, mm_us]; exact ⟨hT, rfl⟩
      · rw [mm_un d, mm_un d]; exact r2 i (by omega)
    · show mm_up z'.2.2 (mm_ph n b (mm_tg nx S l n)) (2 * z.2.2 S + l) (mm_ph n b S') = mm_up z.2.2 (mm_tg nx S l n) (2 * z.2.2 S + l) S'
      by_cases d : S' = mm_tg nx S l n
      · rw [d, mm_us, mm_us]
      · rw [mm_un d, mm_un (fun g => d (mm_ph_inj hn h1 hb hS' hT g)), r3 S' hS']
  · rw [if_neg c, if_neg c]
    exact ⟨r1, r2, r3⟩
theorem mm_rt_q {nx : Nat → Nat → Nat} {n S l : Nat} {z : Nat × (Nat → Nat) × (Nat → Nat)} : z.1 ≤ (mm_rt n nx z S l).1 ∧ ∀ i, i < z.1 → (mm_rt n nx z S l).2.1 i = z.2.1 i := by
  unfold mm_rt
  by_cases c : z.2.2 S < 2048 ∧ z.2.2 (mm_tg nx S l n) = 0
  · rw [if_pos c]
    exact ⟨Nat.le_succ _, fun i hi => mm_un (by omega)⟩
  · rw [if_neg c]
    exact ⟨Nat.le_refl _, fun i hi => rfl⟩
theorem mm_rel_rl {nx nx' : Nat → Nat → Nat} {n b : Nat} (hn : n < 7) (h1 : 1 ≤ n) (hb : b < 6) (h : ∀ s l, s < n → l < 2 → nx s l < n) (hc : ∀ s l, s < n → l < 2 → nx' ((s + b) % n) l = (nx s l + b) % n) : ∀ j i z z', mm_rel n b z z' → mm_rl n nx' j i z' = mm_rl n nx j i z := by
  intro j
  induction j with
  | zero => intro i z z' _; rfl
  | succ j ih =>
    intro i z z' hr
    obtain ⟨r1, r2, r3⟩ := hr
    unfold mm_rl
    rw [r1]
    by_cases c : z.1 ≤ i
    · rw [if_pos c, if_pos c]
    · rw [if_neg c, if_neg c]
      obtain ⟨q1, q2⟩ := r2 i (by omega)
      obtain ⟨_, _, t3⟩ := mm_ph_tab n hn h1 b hb _ q1
      rw [q2]
      by_cases d : z.2.1 i &&& (z.2.1 i - 1) = 0
      · rw [if_pos d, if_pos (t3.mpr d), r3 _ q1]
      · rw [if_neg d, if_neg (fun g => d (t3.mp g))]
        refine ih _ _ _ ?_
        exact mm_rel_st hn h1 hb (fun s hs => h s 1 hs (by decide)) (fun s hs => hc s 1 hs (by decide)) q1 (mm_rel_st hn h1 hb (fun s hs => h s 0 hs (by decide)) (fun s hs => hc s 0 hs (by decide)) q1 ⟨r1, r2, r3⟩)
theorem mm_reset_rot {nx nx' : Nat → Nat → Nat} {n b : Nat} (hn : n < 7) (h1 : 1 ≤ n) (hb : b < 6) (h : ∀ s l, s < n → l < 2 → nx s l < n) (hc : ∀ s l, s < n → l < 2 → nx' ((s + b) % n) l = (nx s l + b) % n) : mm_reset n nx' = mm_reset n nx := by
  have hp : 0 < 2 ^ n := Nat.two_pow_pos n
  have ha : 2 ^ n - 1 < 2 ^ n := by omega
  have ea := mm_ph_all n hn h1 b hb
  refine mm_rel_rl hn h1 hb h hc 64 0 _ _ ⟨rfl, fun i hi => ?_, fun S hS => ?_⟩
  · have hi' : i < 1 := hi
    have hi0 : i = 0 := by omega
    subst hi0
    show mm_up (fun _ => 0) 0 (2 ^ n - 1) 0 < 2 ^ n ∧ mm_up (fun _ => 0) 0 (2 ^ n - 1) 0 = mm_ph n b (mm_up (fun _ => 0) 0 (2 ^ n - 1) 0)
    rw [mm_us, ea]
    exact ⟨ha, rfl⟩
  · show mm_up (fun _ => 0) (2 ^ n - 1) 1 (mm_ph n b S) = mm_up (fun _ => 0) (2 ^ n - 1) 1 S
    by_cases d : S = 2 ^ n - 1
    · rw [d, ea]
    · rw [mm_un d, mm_un (fun g => d (mm_ph_inj hn h1 hb hS ha (g.trans ea.symm)))]
/-! the tables of zeros -/
theorem mm_z_cl : ∀ n, n < 7 → 1 ≤ n → mm_cl (fun s t => decide (s < n ∧ t < n)) n = 1 := by decide +kernel
theorem mm_z_core : ∀ n, n < 7 → 1 ≤ n → mm_core n (fun _ _ => 0) (fun s t => decide (s < n ∧ t < n)) = 1 := by decide +kernel
theorem mm_z_reset : ∀ n, n < 7 → 1 ≤ n → mm_reset n (fun _ _ => 0) = if n = 1 then 1 else 2 := by decide +kernel
/-! turns -/
theorem mm_rot_inj : ∀ n, n < 7 → ∀ b, b < 6 → ∀ s, s < n → ∀ t, t < n → (s + b) % n = (t + b) % n → s = t := by decide +kernel
theorem mm_rot_inv : ∀ n, n < 7 → ∀ b, b < 6 → ∀ t, t < n → ((t + (n - b % n)) % n + b) % n = t := by decide +kernel
end
section
/-! the picture of a state -/
def mm_G (N X A : Nat → Nat) (a1 a2 a3 : Nat → Int32) : Prop := (∀ m, m < 2 → a1 m = nI (N m) ∧ 1 ≤ N m ∧ N m ≤ 6) ∧ (∀ k, k < 24 → a2 k = nI (X k) ∧ a3 k = nI (A k) ∧ X k < 6 ∧ A k < 4) ∧ (∀ m k, m < 2 → k < 2 * N m → X (12 * m + k) < N m)
def mm_lv (N : Nat → Nat) (p : Nat) : Prop := p < 12 ∧ p % 6 < N (p / 6)
def mm_TL (N X A : Nat → Nat) (L : Nat) (a4 : Nat → Int32) : Prop := ∀ p q, mm_lv N p → mm_lv N q → ∃ t, a4 (12 * p + q) = nI t ∧ mm_D X A L p q t
def mm_S (N X A : Nat → Nat) (u : St1) : Prop := mm_G N X A u.2.2.1 u.2.2.2.1 u.2.2.2.2.1 ∧ (¬ u.2.1 = 0 → mm_TL N X A 11 u.2.2.2.2.2.1)
/-! numbers -/
theorem mm_l2 (p : Nat) : (2 : Int32) * nI p = nI (2 * p) := pk_mul 2 p
theorem mm_l4 (p : Nat) : (4 : Int32) * nI p = nI (4 * p) := pk_mul 4 p
theorem mm_l6 (p : Nat) : (6 : Int32) * nI p = nI (6 * p) := pk_mul 6 p
theorem mm_l8 (p : Nat) : (8 : Int32) * nI p = nI (8 * p) := pk_mul 8 p
theorem mm_l12 (p : Nat) : (12 : Int32) * nI p = nI (12 * p) := pk_mul 12 p
theorem mm_d6 {p : Nat} (h : p < 2 ^ 31) : nI p / 6 = nI (p / 6) := pk_div h (by decide) (by decide)
theorem mm_d12 {p : Nat} (h : p < 2 ^ 31) : nI p / 12 = nI (p / 12) := pk_div h (by decide) (by decide)
theorem mm_r6 {p : Nat} (h : p < 2 ^ 31) : nI p - nI p / 6 * 6 = nI (p % 6) := pk_rem h (by decide) (by decide)
theorem mm_r12 {p : Nat} (h : p < 2 ^ 31) : nI p - nI p / 12 * 12 = nI (p % 12) := pk_rem h (by decide) (by decide)
theorem mm_sl : ∀ n, n < 32 → ((nI n &&& 31).toBitVec.smod 32).toNat = n := by decide +kernel
theorem mm_bit {w k : Nat} (hw : w < 2 ^ 31) (hk : k < 32) : (nI w >>> (nI k &&& 31)) &&& 1 = nI (w / 2 ^ k % 2) := by
  have h2 : w / 2 ^ k ≤ w := Nat.div_le_self _ _
  rw [pk_shrN hw _ k (mm_sl k hk)]
  exact pk_andN (by omega) 1 (by decide)
theorem mm_i12 (p q : Nat) : (12 : Int32) * nI p + nI q = nI (12 * p + q) := by rw [mm_l12, nI_add]
theorem mm_i2 (p q : Nat) : (2 : Int32) * nI p + nI q = nI (2 * p + q) := by rw [mm_l2, nI_add]
theorem mm_i6 (p q : Nat) : (6 : Int32) * nI p + nI q = nI (6 * p + q) := by rw [mm_l6, nI_add]
theorem mm_i8 (p q : Nat) : (8 : Int32) * nI p + nI q = nI (8 * p + q) := by rw [mm_l8, nI_add]
theorem mm_pm (k : Nat) : nI k + (-1) = nI k - 1 := (Int32.sub_eq_add_neg _ _).symm
theorem mm_lvn {N X A : Nat → Nat} {a1 a2 a3 : Nat → Int32} {p l : Nat} (hG : mm_G N X A a1 a2 a3) (hp : mm_lv N p) (hl : l < 2) : mm_lv N (mm_nx X p l) ∧ mm_nx X p l / 6 = p / 6 ∧ mm_nx X p l % 6 = X (2 * p + l) := by
  obtain ⟨h1, h2⟩ := hp
  have hx := hG.2.2 (p / 6) (2 * (p % 6) + l) (by omega) (by omega)
  rw [show 12 * (p / 6) + (2 * (p % 6) + l) = 2 * p + l by omega] at hx
  have hn := (hG.1 (p / 6) (by omega)).2.2
  have e1 : mm_nx X p l / 6 = p / 6 := by unfold mm_nx; omega
  have e2 : mm_nx X p l % 6 = X (2 * p + l) := by unfold mm_nx; omega
  refine ⟨⟨by unfold mm_nx; omega, ?_⟩, e1, e2⟩
  rw [e1, e2]; exact hx
/-! the small methods -/
theorem mm_isM {post : Int32 → Prop} {m : Nat} (hm : m < 2) (h : post 1) : wpX_isMachine post () (nI m) :=
  pk_eq m 0 (fun _ => h) (fun _ => pk_eq m 1 (fun _ => h) (fun z => absurd z (by omega)))
theorem mm_states {post : Int32 → Prop} {N X A : Nat → Nat} {c f : Int32} {a1 a2 a3 a4 a5 a6 a7 a8 : Nat → Int32} {m : Nat} (hG : mm_G N X A a1 a2 a3) (hm : m < 2) (h : post (nI (N m))) : wpX_states post (c, f, a1, a2, a3, a4, a5, a6, a7, a8) (nI m) := by
  unfold wpX_states
  dsimp only
  refine mm_isM hm (br_f (by decide) ⟨vp_in_nI hm (by decide), ?_⟩)
  rw [nI_clamp (by omega), (hG.1 m hm).1]
  exact h
theorem mm_isThere {post : Int32 → Prop} {N X A : Nat → Nat} {c f : Int32} {a1 a2 a3 a4 a5 a6 a7 a8 : Nat → Int32} {p : Nat} (hG : mm_G N X A a1 a2 a3) (hp : p < 12) (h1 : mm_lv N p → post 1) (h0 : ¬ mm_lv N p → post 0) : wpX_isThere post (c, f, a1, a2, a3, a4, a5, a6, a7, a8) (nI p) := by
  unfold wpX_isThere
  dsimp only
  have hn := (hG.1 (p / 6) (by omega)).2.2
  rw [mm_r6 (by omega), mm_d6 (by omega), nI_clamp (by omega), (hG.1 (p / 6) (by omega)).1]
  exact ⟨by decide, by decide, vp_in_nI (by omega) (by decide), pk_le (N (p / 6)) (p % 6) (fun z => h0 (fun g => absurd g.2 (by omega))) (fun z => h1 ⟨hp, z⟩)⟩
theorem mm_after {post : Int32 → Prop} {N X A : Nat → Nat} {c f : Int32} {a1 a2 a3 a4 a5 a6 a7 a8 : Nat → Int32} {p l : Nat} (hG : mm_G N X A a1 a2 a3) (hp : mm_lv N p) (hl : l < 2) (h : post (nI (mm_nx X p l))) : wpX_after post (c, f, a1, a2, a3, a4, a5, a6, a7, a8) (nI p) (nI l) := by
  have hp1 := hp.1
  unfold wpX_after
  dsimp only
  rw [mm_i2, nI_clamp (by omega), (hG.2.1 (2 * p + l) (by omega)).1, mm_d6 (by omega), mm_i6]
  exact ⟨by decide, vp_in_nI (by omega) (by decide), h⟩
theorem mm_place {post : Int32 → Prop} {N X A : Nat → Nat} {c f : Int32} {a1 a2 a3 a4 a5 a6 a7 a8 : Nat → Int32} {m s : Nat} {x : Int32} (hG : mm_G N X A a1 a2 a3) (hm : m < 2) (hs : s < N m) (hx : x = nI (8 * m + s)) (h : post (nI (6 * m + s))) : wpX_placeOf post (c, f, a1, a2, a3, a4, a5, a6, a7, a8) x := by
  subst hx
  have hn := (hG.1 m hm).2.2
  have e1 : nI (8 * m + s) >>> ((3 : Int32) &&& 31) = nI m := by
    rw [pk_shrN (by omega) _ 3 (by decide)]
    exact congrArg nI (by omega)
  have e2 : nI (8 * m + s) &&& 7 = nI s := by
    rw [pk_andN (by omega) 3 (by decide)]
    exact congrArg nI (by omega)
  unfold wpX_placeOf
  dsimp only
  refine nm_r e1 (nm_r e2 (mm_isM hm (br_f (by decide) ⟨vp_in_nI hm (by decide), ?_⟩)))
  rw [nI_clamp (by omega), (hG.1 m hm).1, mm_i6]
  exact pk_le (N m) s (fun z => absurd z (by omega)) (fun _ => h)
theorem mm_letters {post : Int32 → Prop} {w : Nat} (hw : 1 ≤ w) (hw2 : w < 4096) (h : ∀ k, k ≤ 11 → 2 ^ k ≤ w → w < 2 ^ (k + 1) → post (nI k)) : wpX_lettersOf post () (nI w) := by
  unfold wpX_lettersOf
  have main : ∀ j i, i + j = 11 → 2 ^ i ≤ w → wX_lettersOf_2 post (nI w) (j + 1) (nI i) := by
    intro j
    induction j with
    | zero =>
      intro i hi h2
      have : i = 11 := by omega
      subst this
      exact pk_le 11 11 (fun _ => h 11 (by omega) h2 (by omega)) (fun z => absurd z (by omega))
    | succ j ih =>
      intro i hi h2
      have e : (2 : Int32) <<< (nI i &&& 31) = nI (2 ^ (i + 1)) := by
        have hp : 2 ^ i ≤ 2 ^ 11 := Nat.pow_le_pow_right (by decide) (by omega)
        have := pk_shlN (n := 2) (nI i &&& 31) i (mm_sl i (by omega)) (by omega)
        rw [show (2 : Int32) = nI 2 from rfl, this, Nat.pow_succ, Nat.mul_comm]
      have hp : 2 ^ (i + 1) ≤ 2 ^ 11 := Nat.pow_le_pow_right (by decide) (by omega)
      refine pk_le 11 i (fun z => absurd z (by omega)) (fun _ => ?_)
      rw [e]
      exact pk_lt w (2 ^ (i + 1)) (fun z => h i (by omega) h2 z) (fun z => nm_r (nI_1 i) (ih (i + 1) (by omega) z))
  exact ⟨12, main 11 0 (by decide) hw⟩
/-! words -/
def mm_rn (X : Nat → Nat) (w : Nat) : Nat → Nat → Nat
  | 0, p => p
  | k + 1, p => mm_rn X w k (mm_nx X p (w / 2 ^ k % 2))
def mm_rs (X A : Nat → Nat) (w : Nat) : Nat → Nat → Nat → Nat
  | 0, _, r => r
  | k + 1, p, r => mm_rs X A w k (mm_nx X p (w / 2 ^ k % 2)) (4 * r + A (2 * p + w / 2 ^ k % 2))
theorem mm_run {post : Int32 → Prop} {N X A : Nat → Nat} {c f : Int32} {a1 a2 a3 a4 a5 a6 a7 a8 : Nat → Int32} {m s w k : Nat} {x y : Int32} (hG : mm_G N X A a1 a2 a3) (hm : m < 2) (hs : s < N m) (hx : x = nI (8 * m + s)) (hy : y = nI w) (hk : k ≤ 11) (h1 : 2 ^ k ≤ w) (h2 : w < 2 ^ (k + 1)) (h : post (nI (mm_rn X w k (6 * m + s) % 6))) : wpX_run post (c, f, a1, a2, a3, a4, a5, a6, a7, a8) x y := by
  subst hy
  have hn := (hG.1 m hm).2.2
  have hp : 2 ^ (k + 1) ≤ 2 ^ 12 := Nat.pow_le_pow_right (by decide) (by omega)
  have hp0 : 0 < 2 ^ k := Nat.two_pow_pos k
  have main : ∀ j p, mm_lv N p → j ≤ 11 → post (nI (mm_rn X w j p % 6)) → wX_run_39 post (nI w) c f a1 a2 a3 a4 a5 a6 a7 a8 (j + 1) (nI p) (nI j - 1) := by
    intro j
    induction j with
    | zero =>
      intro p hp _ h
      have hp1 := hp.1
      refine br_t (by decide) ⟨by decide, ?_⟩
      rw [mm_r6 (by omega)]
      exact h
    | succ j ih =>
      intro p hp hj h
      rw [nI_pred]
      refine br_f (nI_pos (by omega)) ?_
      rw [mm_bit (by omega) (by omega)]
      exact mm_after hG hp (Nat.mod_lt _ (by decide)) (nm_r (mm_pm j) (ih _ (mm_lvn hG hp (Nat.mod_lt _ (by decide))).1 (by omega) h))
  unfold wpX_run
  dsimp only
  refine mm_place hG hm hs hx (br_t (nI_pos' (by omega)) (pk_lt w 1 (fun z => absurd z (by omega)) (fun _ => pk_le w 4095 (fun _ => ?_) (fun z => absurd z (by omega)))))
  refine mm_letters (by omega) (by omega) (fun k' hk' g1 g2 => nm_e ⟨k' + 1, ?_⟩)
  have hkk : k' = k := by
    rcases Nat.lt_trichotomy k' k with z | z | z
    · have : 2 ^ (k' + 1) ≤ 2 ^ k := Nat.pow_le_pow_right (by decide) z
      omega
    · exact z
    · have : 2 ^ (k + 1) ≤ 2 ^ k' := Nat.pow_le_pow_right (by decide) z
      omega
  subst hkk
  refine main k' _ ⟨by omega, ?_⟩ hk' h
  rw [show (6 * m + s) / 6 = m by omega]
  omega
theorem mm_response {post : Int32 → Prop} {N X A : Nat → Nat} {c f : Int32} {a1 a2 a3 a4 a5 a6 a7 a8 : Nat → Int32} {m s w k : Nat} {x y : Int32} (hG : mm_G N X A a1 a2 a3) (hm : m < 2) (hs : s < N m) (hx : x = nI (8 * m + s)) (hy : y = nI w) (hk : k ≤ 11) (h1 : 2 ^ k ≤ w) (h2 : w < 2 ^ (k + 1)) (h : post (nI (mm_rs X A w k (6 * m + s) 0))) : wpX_response post (c, f, a1, a2, a3, a4, a5, a6, a7, a8) x y := by
  subst hy
  have hn := (hG.1 m hm).2.2
  have hp : 2 ^ (k + 1) ≤ 2 ^ 12 := Nat.pow_le_pow_right (by decide) (by omega)
  have hp0 : 0 < 2 ^ k := Nat.two_pow_pos k
  have main : ∀ j p r, mm_lv N p → j ≤ 11 → post (nI (mm_rs X A w j p r)) → wX_response_42 post (nI w) c f a1 a2 a3 a4 a5 a6 a7 a8 (j + 1) (nI p) (nI r) (nI j - 1) := by
    intro j
    induction j with
    | zero =>
      intro p r hp _ h
      exact br_t (by decide) h
    | succ j ih =>
      intro p r hp hj h
      have hp1 := hp.1
      have hb : w / 2 ^ j % 2 < 2 := Nat.mod_lt _ (by decide)
      rw [nI_pred]
      refine br_f (nI_pos (by omega)) (nm_r (mm_bit (by omega) (by omega)) ?_)
      rw [mm_i2, nI_clamp (by omega), (hG.2.1 (2 * p + w / 2 ^ j % 2) (by omega)).2.1, mm_l4, nI_add]
      exact ⟨vp_in_nI (by omega) (by decide), nm_e (mm_after hG hp hb (nm_r (mm_pm j) (ih _ _ (mm_lvn hG hp hb).1 (by omega) h)))⟩
  unfold wpX_response
  dsimp only
  refine mm_place hG hm hs hx (br_t (nI_pos' (by omega)) (pk_lt w 1 (fun z => absurd z (by omega)) (fun _ => pk_le w 4095 (fun _ => ?_) (fun z => absurd z (by omega)))))
  refine mm_letters (by omega) (by omega) (fun k' hk' g1 g2 => nm_e ⟨k' + 1, ?_⟩)
  have hkk : k' = k := by
    rcases Nat.lt_trichotomy k' k with z | z | z
    · have : 2 ^ (k' + 1) ≤ 2 ^ k := Nat.pow_le_pow_right (by decide) z
      omega
    · exact z
    · have : 2 ^ (k + 1) ≤ 2 ^ k' := Nat.pow_le_pow_right (by decide) z
      omega
  subst hkk
  refine main k' _ 0 ⟨by omega, ?_⟩ hk' h
  rw [show (6 * m + s) / 6 = m by omega]
  omega
end
section
theorem mm_goes {post : Int32 → Prop} {N X A : Nat → Nat} {c f : Int32} {a1 a2 a3 a4 a5 a6 a7 a8 : Nat → Int32} {p q L t0 t1 : Nat} (hG : mm_G N X A a1 a2 a3) (hp : mm_lv N p) (hq : mm_lv N q) (e0 : a4 (12 * mm_nx X p 0 + mm_nx X q 0) = nI t0) (e1 : a4 (12 * mm_nx X p 1 + mm_nx X q 1) = nI t1) (b0 : t0 < 2 ^ 31) (b1 : t1 < 2 ^ 31) (bL : L < 2 ^ 31) (h1 : t0 = L ∨ t1 = L → post 1) (h0 : ¬ (t0 = L ∨ t1 = L) → post 0) : wpX_goesTo post (c, f, a1, a2, a3, a4, a5, a6, a7, a8) (nI p) (nI q) (nI L) := by
  have n0 := (mm_lvn hG hp (l := 0) (by decide)).1.1
  have n1 := (mm_lvn hG hp (l := 1) (by decide)).1.1
  have m0 := (mm_lvn hG hq (l := 0) (by decide)).1.1
  have m1 := (mm_lvn hG hq (l := 1) (by decide)).1.1
  unfold wpX_goesTo
  dsimp only
  refine ⟨0 + 1 + 1 + 1, ?_⟩
  refine pk_le 2 0 (fun z => absurd z (by decide)) (fun _ => mm_after (l := 0) hG hp (by decide) (mm_after (l := 0) hG hq (by decide) ?_))
  rw [mm_i12, nI_clamp (by omega), e0]
  refine ⟨vp_in_nI (by omega) (by decide), pk_eq t0 L (fun z => h1 (.inl z)) (fun z0 => nm_r (e' := nI 1) (by decide) ?_)⟩
  refine pk_le 2 1 (fun z => absurd z (by decide)) (fun _ => mm_after (l := 1) hG hp (by decide) (mm_after (l := 1) hG hq (by decide) ?_))
  rw [mm_i12, nI_clamp (by omega), e1]
  refine ⟨vp_in_nI (by omega) (by decide), pk_eq t1 L (fun z => h1 (.inr z)) (fun z1 => nm_r (e' := nI 2) (by decide) ?_)⟩
  exact pk_le 2 2 (fun _ => h0 (fun g => g.elim z0 z1)) (fun z => absurd z (by decide))
theorem mm_r79 {post : St1 → Prop} {J : Int32 → (Nat → Int32) → (Nat → Int32) → (Nat → Int32) → (Nat → Int32) → (Nat → Int32) → (Nat → Int32) → (Nat → Int32) → (Nat → Int32) → Prop} {N X A : Nat → Nat} {c f : Int32} {a1 a2 a3 a4 a5 a6 a7 a8 : Nat → Int32} {i p q z : Nat} (hG : mm_G N X A a1 a2 a3) (hi : i < 144) (hp : p < 12) (hq : q < 12) (hz : z < 2) (h : ∀ v, (mm_lv N p → mm_lv N q → v = z) → J (nI (i + 1)) a1 a2 a3 (upd a4 i (nI v)) a5 a6 a7 a8) : wX_refresh_79 post J (nI i) (nI p) (nI q) (nI z) c f a1 a2 a3 a4 a5 a6 a7 a8 := by
  unfold wX_refresh_79
  rw [nI_clamp (show i < 2 ^ 31 by omega)]
  refine pk_eq z 0 (fun e => ⟨vp_in_nI hi (by decide), nm_e (nm_r (nI_1 i) (h 0 (fun _ _ => e.symm)))⟩) (fun e => ?_)
  refine mm_isThere hG hp (fun lp => br_f (by decide) ?_) (fun np => br_t rfl ⟨vp_in_nI hi (by decide), nm_e (nm_r (nI_1 i) (h 0 (fun lp _ => absurd lp np)))⟩)
  exact mm_isThere hG hq (fun lq => br_f (by decide) ⟨vp_in_nI hi (by decide), nm_e (nm_r (nI_1 i) (h 1 (fun _ _ => by omega)))⟩) (fun nq => br_t rfl ⟨vp_in_nI hi (by decide), nm_e (nm_r (nI_1 i) (h 0 (fun _ lq => absurd lq nq)))⟩)
theorem mm_r129 {post : St1 → Prop} {J : Int32 → (Nat → Int32) → (Nat → Int32) → (Nat → Int32) → (Nat → Int32) → (Nat → Int32) → (Nat → Int32) → (Nat → Int32) → (Nat → Int32) → Prop} {N X A : Nat → Nat} {c f : Int32} {a1 a2 a3 a4 a5 a6 a7 a8 : Nat → Int32} {L : Nat} (hG : mm_G N X A a1 a2 a3) (h1 : 1 ≤ L) (h10 : L ≤ 10) (h : mm_TL N X A L a4) (H : ∀ a4', mm_TL N X A (L + 1) a4' → J (nI (L + 2)) a1 a2 a3 a4' a5 a6 a7 a8) : ∃ n, wX_refresh_129 post J (nI (L + 1)) c f n 0 a1 a2 a3 a4 a5 a6 a7 a8 := by
  refine pk_loop (fun n i s => wX_refresh_129 post J (nI (L + 1)) c f n (nI i) a1 a2 a3 s a5 a6 a7 a8) (fun i s => ∀ p q, mm_lv N p → mm_lv N q → ∃ t, s (12 * p + q) = nI t ∧ mm_D X A (if 12 * p + q < i then L + 1 else L) p q t) 144 0 a4 (by omega) ?_ ?_ ?_
  · intro p q hp hq
    rw [if_neg (by omega)]
    exact h p q hp hq
  · intro n s hI
    refine pk_le 144 144 (fun _ => nm_r (nI_1 (L + 1)) (H s (fun p q hp hq => ?_))) (fun z => absurd z (by omega))
    have hp1 := hp.1
    have hq1 := hq.1
    have := hI p q hp hq
    rw [if_pos (by omega)] at this
    exact this
  · intro n i s hi hI hw
    have hp : i / 12 < 12 := by omega
    have hq : i % 12 < 12 := by omega
    have idx : 12 * (i / 12) + i % 12 = i := by omega
    have keep : (mm_lv N (i / 12) → mm_lv N (i % 12) → ∀ t, s i = nI t → mm_D X A L (i / 12) (i % 12) t → mm_D X A (L + 1) (i / 12) (i % 12) t) → (∀ p q, mm_lv N p → mm_lv N q → ∃ t, s (12 * p + q) = nI t ∧ mm_D X A (if 12 * p + q < i + 1 then L + 1 else L) p q t) := by
      intro g p q lp lq
      have lp1 := lp.1
      have lq1 := lq.1
      obtain ⟨t, t1, t2⟩ := hI p q lp lq
      by_cases e : 12 * p + q = i
      · have ep : p = i / 12 := by omega
        have eq : q = i % 12 := by omega
        rw [if_neg (by omega)] at t2
        rw [if_pos (by omega)]
        subst ep
        subst eq
        exact ⟨t, t1, g lp lq t (by rw [← t1, idx]) t2⟩
      · refine ⟨t, t1, ?_⟩
        by_cases d : 12 * p + q < i
        · rw [if_pos d] at t2
          rw [if_pos (by omega)]
          exact t2
        · rw [if_neg d] at t2
          rw [if_neg (by omega)]
          exact t2
    have store : ∀ v, (mm_lv N (i / 12) → mm_lv N (i % 12) → mm_D X A (L + 1) (i / 12) (i % 12) v) → (∀ p q, mm_lv N p → mm_lv N q → ∃ t, upd s i (nI v) (12 * p + q) = nI t ∧ mm_D X A (if 12 * p + q < i + 1 then L + 1 else L) p q t) := by
      intro v g p q lp lq
      have lp1 := lp.1
      have lq1 := lq.1
      by_cases e : 12 * p + q = i
      · have ep : p = i / 12 := by omega
        have eq : q = i % 12 := by omega
        rw [if_pos (by omega), e, pk_us]
        subst ep
        subst eq
        exact ⟨v, rfl, g lp lq⟩
      · rw [pk_un e]
        obtain ⟨t, t1, t2⟩ := hI p q lp lq
        refine ⟨t, t1, ?_⟩
        by_cases d : 12 * p + q < i
        · rw [if_pos d] at t2
          rw [if_pos (by omega)]
          exact t2
        · rw [if_neg d] at t2
          rw [if_neg (by omega)]
          exact t2
    show wX_refresh_129 post J (nI (L + 1)) c f (n + 1) (nI i) a1 a2 a3 s a5 a6 a7 a8
    refine pk_le 144 i (fun z => absurd z (by omega)) (fun _ => ⟨vp_in_nI hi (by decide), ?_⟩)
    rw [nI_clamp (show i < 2 ^ 31 by omega), mm_r12 (show i < 2 ^ 31 by omega), mm_d12 (show i < 2 ^ 31 by omega), nI_pred]
    refine br_c (fun z => ⟨by decide, mm_isThere hG hp (fun lp => br_f (by decide) ⟨by decide, mm_isThere hG hq (fun lq => br_f (by decide) ⟨by decide, by decide, ?_⟩) (fun nq => br_t rfl (nm_r (nI_1 i) (hw s (keep (fun _ lq => absurd lq nq)))))⟩) (fun np => br_t rfl (nm_r (nI_1 i) (hw s (keep (fun lp => absurd lp np)))))⟩) (fun z => nm_r (nI_1 i) (hw s (keep (fun lp lq t e d => ?_))))
    · obtain ⟨t, t1, t2⟩ := hI _ _ lp lq
      rw [if_neg (by omega)] at t2
      rw [idx] at t1
      have tl := mm_D_le t2
      have t0 : t = 0 := by
        rw [t1, ← nI_0] at z
        exact (nI_eq (by omega) (by omega)).mp z
      have eL := (mm_D0 t2).mp t0
      obtain ⟨u0, u1, u2⟩ := hI _ _ (mm_lvn hG lp (l := 0) (by decide)).1 (mm_lvn hG lq (l := 0) (by decide)).1
      obtain ⟨v0, v1, v2⟩ := hI _ _ (mm_lvn hG lp (l := 1) (by decide)).1 (mm_lvn hG lq (l := 1) (by decide)).1
      have ul := mm_D_le u2
      have vl := mm_D_le v2
      have c0 := mm_D_at u2 (L := L) (by split <;> omega) h1 (mm_down h1 (by decide) eL)
      have c1 := mm_D_at v2 (L := L) (by split <;> omega) h1 (mm_down h1 (by decide) eL)
      have ul' : u0 ≤ L + 1 := by split at ul <;> omega
      have vl' : v0 ≤ L + 1 := by split at vl <;> omega
      have gg := mm_go h1 eL
      rw [← c0, ← c1] at gg
      refine mm_goes hG lp lq u1 v1 (by omega) (by omega) (by omega) (fun g => br_f (by decide) ⟨vp_in_nI hi (by decide), nm_e (nm_r (nI_1 i) (hw _ (store (L + 1) (fun _ _ => .inr ⟨by omega, by omega, eL, gg.mpr g⟩))))⟩) (fun g => br_t rfl ⟨vp_in_nI hi (by decide), nm_e (nm_r (nI_1 i) (hw _ (store 0 (fun _ _ => .inl ⟨rfl, ?_⟩))))⟩)
      cases b : mm_eq X A (L + 1) (i / 12) (i % 12) with
      | true => rfl
      | false => exact absurd (gg.mp (by rw [b]; decide)) g
    · rcases d with ⟨d1, _⟩ | ⟨d1, d2, d3, d4⟩
      · rw [e, d1] at z
        exact absurd nI_0 z
      · exact .inr ⟨d1, by omega, d3, d4⟩
theorem mm_r121 {post : St1 → Prop} {N X A : Nat → Nat} {c f : Int32} {a1 a2 a3 a5 a6 a7 a8 : Nat → Int32} (hG : mm_G N X A a1 a2 a3) (H : ∀ a4', mm_TL N X A 11 a4' → post (c, f, a1, a2, a3, a4', a5, a6, a7, a8)) : ∀ j L a4, L + j = 11 → 1 ≤ L → mm_TL N X A L a4 → wX_refresh_121 post c f (j + 1) (nI (L + 1)) a1 a2 a3 a4 a5 a6 a7 a8 := by
  intro j
  induction j with
  | zero =>
    intro L a4 hL h1 h
    have : L = 11 := by omega
    subst this
    exact pk_lt 11 12 (fun _ => H a4 h) (fun z => absurd z (by omega))
  | succ j ih =>
    intro L a4 hL h1 h
    exact pk_lt 11 (L + 1) (fun z => absurd z (by omega)) (fun _ => mm_r129 hG h1 (by omega) h (fun a4' h' => ih (L + 1) a4' (by omega) (by omega) h'))
theorem mm_r15 {post : St1 → Prop} {N X A : Nat → Nat} {c f : Int32} {a1 a2 a3 a4 a5 a6 a7 a8 : Nat → Int32} (hG : mm_G N X A a1 a2 a3) (H : ∀ a4', mm_TL N X A 11 a4' → post (c, f, a1, a2, a3, a4', a5, a6, a7, a8)) : ∃ n, wX_refresh_15 post c f n 0 a1 a2 a3 a4 a5 a6 a7 a8 := by
  refine pk_loop (fun n i s => wX_refresh_15 post c f n (nI i) a1 a2 a3 s a5 a6 a7 a8) (fun i s => ∀ p q, mm_lv N p → mm_lv N q → 12 * p + q < i → ∃ t, s (12 * p + q) = nI t ∧ mm_D X A 1 p q t) 144 0 a4 (by omega) ?_ ?_ ?_
  · intro p q _ _ z
    omega
  · intro n s hI
    refine pk_le 144 144 (fun _ => ⟨11, mm_r121 hG H 10 1 s (by decide) (by decide) (fun p q hp hq => hI p q hp hq ?_)⟩) (fun z => absurd z (by omega))
    have hp1 := hp.1
    have hq1 := hq.1
    omega
  · intro n i s hi hI hw
    have hp : i / 12 < 12 := by omega
    have hq : i % 12 < 12 := by omega
    have store : ∀ v, (mm_lv N (i / 12) → mm_lv N (i % 12) → mm_D X A 1 (i / 12) (i % 12) v) → (∀ p q, mm_lv N p → mm_lv N q → 12 * p + q < i + 1 → ∃ t, upd s i (nI v) (12 * p + q) = nI t ∧ mm_D X A 1 p q t) := by
      intro v g p q lp lq hlt
      have lp1 := lp.1
      have lq1 := lq.1
      by_cases e : 12 * p + q = i
      · have ep : p = i / 12 := by omega
        have eq : q = i % 12 := by omega
        rw [e, pk_us]
        subst ep
        subst eq
        exact ⟨v, rfl, g lp lq⟩
      · rw [pk_un e]
        exact hI p q lp lq (by omega)
    have g1 := hG.2.1 (2 * (i / 12)) (by omega)
    have g2 := hG.2.1 (2 * (i % 12)) (by omega)
    have g3 := hG.2.1 (2 * (i / 12) + 1) (by omega)
    have g4 := hG.2.1 (2 * (i % 12) + 1) (by omega)
    have b1 := g1.2.2.2
    have b2 := g2.2.2.2
    have b3 := g3.2.2.2
    have b4 := g4.2.2.2
    have one : (¬ (A (2 * (i / 12)) = A (2 * (i % 12)) ∧ A (2 * (i / 12) + 1) = A (2 * (i % 12) + 1))) → mm_D X A 1 (i / 12) (i % 12) 1 := fun z => .inr ⟨by decide, by decide, rfl, fun g => z ⟨(mm_eqS.mp g).1, (mm_eqS.mp g).2.1⟩⟩
    show wX_refresh_15 post c f (n + 1) (nI i) a1 a2 a3 s a5 a6 a7 a8
    refine pk_le 144 i (fun z => absurd z (by omega)) (fun _ => ⟨by decide, nm_r (mm_d12 (by omega)) ⟨by decide, nm_r (mm_r12 (by omega)) ?_⟩⟩)
    rw [mm_l2 (i / 12), mm_l2 (i % 12), nI_1 (2 * (i / 12)), nI_1 (2 * (i % 12)), nI_clamp (show 2 * (i / 12) < 2 ^ 31 by omega), nI_clamp (show 2 * (i % 12) < 2 ^ 31 by omega), nI_clamp (show 2 * (i / 12) + 1 < 2 ^ 31 by omega), nI_clamp (show 2 * (i % 12) + 1 < 2 ^ 31 by omega), g1.2.1, g2.2.1, g3.2.1, g4.2.1]
    refine ⟨vp_in_nI (by omega) (by decide), vp_in_nI (by omega) (by decide), pk_eq (A (2 * (i / 12))) (A (2 * (i % 12))) (fun e1 => ⟨vp_in_nI (by omega) (by decide), vp_in_nI (by omega) (by decide), pk_eq (A (2 * (i / 12) + 1)) (A (2 * (i % 12) + 1)) (fun e2 => ?_) (fun e2 => ?_)⟩) (fun e1 => ?_)⟩
    · exact mm_r79 (z := 0) hG hi hp hq (by decide) (fun v hv => hw _ (store v (fun lp lq => by rw [hv lp lq]; exact .inl ⟨rfl, mm_eqS.mpr ⟨e1, e2, rfl, rfl⟩⟩)))
    · unfold wX_refresh_74
      exact mm_r79 (z := 1) hG hi hp hq (by decide) (fun v hv => hw _ (store v (fun lp lq => by rw [hv lp lq]; exact one (fun g => e2 g.2))))
    · unfold wX_refresh_74
      exact mm_r79 (z := 1) hG hi hp hq (by decide) (fun v hv => hw _ (store v (fun lp lq => by rw [hv lp lq]; exact one (fun g => e1 g.1))))
theorem mm_refresh {post : St1 → Prop} {N X A : Nat → Nat} {c f : Int32} {a1 a2 a3 a4 a5 a6 a7 a8 : Nat → Int32} (hS : mm_S N X A (c, f, a1, a2, a3, a4, a5, a6, a7, a8)) (H : ∀ f' a4', mm_S N X A (c, f', a1, a2, a3, a4', a5, a6, a7, a8) → mm_TL N X A 11 a4' → post (c, f', a1, a2, a3, a4', a5, a6, a7, a8)) : wpX_refresh post (c, f, a1, a2, a3, a4, a5, a6, a7, a8) := by
  have hG : mm_G N X A a1 a2 a3 := hS.1
  unfold wpX_refresh
  dsimp only
  exact br_c (fun z => mm_r15 hG (fun a4' h' => H 1 a4' ⟨hG, fun _ => h'⟩ h')) (fun z => H f a4 hS (hS.2 z))
end
section
/-- a class's number as the array holds it: 0 for none -/
def mm_enc (v : Nat) : Int32 := if v = 0 then -1 else nI (v - 1)
theorem mm_enc0 : mm_enc 0 = -1 := rfl
theorem mm_encS (c : Nat) : mm_enc (c + 1) = nI c := if_neg (Nat.succ_ne_zero c)
theorem mm_encN {v : Nat} (h : v ≠ 0) (hv : v < 2 ^ 31) : ¬ mm_enc v = -1 := by
  obtain ⟨w, rfl⟩ : ∃ w, v = w + 1 := ⟨v - 1, by omega⟩
  rw [mm_encS]
  intro g
  have := nI_pos (n := w) (by omega)
  rw [g] at this
  exact this (by decide)
theorem mm_if2 {t i x y : Nat} {q : Bool} (d : t ≠ i) : (if t < i + 1 ∧ q = true then x else y) = (if t < i ∧ q = true then x else y) := by
  by_cases g : t < i ∧ q = true
  · rw [if_pos g, if_pos ⟨by have := g.1; omega, g.2⟩]
  · rw [if_neg g, if_neg (fun z => g ⟨by have := z.1; omega, z.2⟩)]
theorem mm_lv6 {N X A : Nat → Nat} {a1 a2 a3 : Nat → Int32} {m s : Nat} (hG : mm_G N X A a1 a2 a3) (hm : m < 2) (hs : s < N m) : mm_lv N (6 * m + s) := by
  have hn := (hG.1 m hm).2.2
  refine ⟨by omega, ?_⟩
  rw [show (6 * m + s) / 6 = m by omega]
  omega
theorem mm_admit {post : St1 → Prop} {N X A : Nat → Nat} {f : Int32} {a1 a2 a3 a4 a5 a6 a7 a8 : Nat → Int32} {m s c : Nat} {cl : Nat → Nat} (hG : mm_G N X A a1 a2 a3) (hT : mm_TL N X A 11 a4) (hm : m < 2) (hs : s < N m) (hc : c < 12) (hcl : ∀ t, t < N m → a5 (6 * m + t) = mm_enc (cl t)) (H : ∀ a5', (∀ t, t < N m → a5' (6 * m + t) = mm_enc (if t < N m ∧ mm_lq X A m (N m) s t = true then c + 1 else cl t)) → post (nI (c + 1), f, a1, a2, a3, a4, a5', upd a6 c (nI (6 * m + s)), a7, a8)) : wpX_admit post (nI c, f, a1, a2, a3, a4, a5, a6, a7, a8) (nI m) (nI (6 * m + s)) := by
  have hn := (hG.1 m hm).2.2
  unfold wpX_admit
  dsimp only
  rw [nI_clamp (show c < 2 ^ 31 by omega)]
  refine ⟨vp_in_nI hc (by decide), nm_e ?_⟩
  refine pk_loop (fun n i b => wX_admit_12 post (nI m) (nI (6 * m + s)) (nI c) f n (nI i) a1 a2 a3 a4 b (upd a6 c (nI (6 * m + s))) a7 a8) (fun i b => ∀ t, t < N m → b (6 * m + t) = mm_enc (if t < i ∧ mm_lq X A m (N m) s t = true then c + 1 else cl t)) (N m) 0 a5 (by omega) ?_ ?_ ?_
  · intro t ht
    rw [if_neg (fun g => absurd g.1 (by omega))]
    exact hcl t ht
  · intro n b hI
    show wX_admit_12 post (nI m) (nI (6 * m + s)) (nI c) f (n + 1) (nI (N m)) a1 a2 a3 a4 b (upd a6 c (nI (6 * m + s))) a7 a8
    refine And.intro (vp_in_nI hm (by decide)) ?_
    rw [nI_clamp (show m < 2 ^ 31 by omega), (hG.1 m hm).1]
    exact pk_le (N m) (N m) (fun _ => nm_r (nI_1 c) (H b hI)) (fun z => absurd z (by omega))
  · intro n i b hi hI hw
    show wX_admit_12 post (nI m) (nI (6 * m + s)) (nI c) f (n + 1) (nI i) a1 a2 a3 a4 b (upd a6 c (nI (6 * m + s))) a7 a8
    refine And.intro (vp_in_nI hm (by decide)) ?_
    rw [nI_clamp (show m < 2 ^ 31 by omega), (hG.1 m hm).1]
    refine pk_le (N m) i (fun z => absurd z (by omega)) (fun _ => nm_r (mm_i6 m i) ?_)
    obtain ⟨t, t1, t2⟩ := hT (6 * m + s) (6 * m + i) (mm_lv6 hG hm hs) (mm_lv6 hG hm hi)
    have tl := mm_D_le t2
    rw [mm_i12, nI_clamp (show 12 * (6 * m + s) + (6 * m + i) < 2 ^ 31 by omega), nI_clamp (show 6 * m + i < 2 ^ 31 by omega), t1]
    refine ⟨vp_in_nI (by omega) (by decide), pk_eq t 0 (fun e => ⟨vp_in_nI (by omega) (by decide), nm_e (nm_r (nI_1 i) (hw _ ?_))⟩) (fun e => nm_r (nI_1 i) (hw b ?_))⟩
    · have q : mm_lq X A m (N m) s i = true := by
        rw [mm_lq_in hs hi]
        exact (mm_D0 t2).mp e
      intro t' ht'
      by_cases d : t' = i
      · subst d
        rw [pk_us, if_pos ⟨by omega, q⟩, mm_encS]
      · rw [pk_un (by omega), hI t' ht', mm_if2 d]
    · have q : ¬ mm_lq X A m (N m) s i = true := by
        rw [mm_lq_in hs hi]
        exact fun g => e ((mm_D0 t2).mpr g)
      intro t' ht'
      by_cases d : t' = i
      · subst d
        rw [hI t' ht', if_neg (fun g => q g.2), if_neg (fun g => q g.2)]
      · rw [hI t' ht', mm_if2 d]
def mm_R (n m : Nat) (z : Nat × (Nat → Nat) × (Nat → Nat)) (c : Int32) (a5 a6 : Nat → Int32) : Prop := c = nI z.1 ∧ (∀ t, t < n → a5 (6 * m + t) = mm_enc (z.2.1 t) ∧ z.2.1 t ≤ z.1) ∧ (∀ k, k < z.1 → a6 k = nI (6 * m + z.2.2 k) ∧ z.2.2 k < n) ∧ z.1 ≤ mm_cn (fun t => decide (z.2.1 t ≠ 0)) n
theorem mm_admitR {post : St1 → Prop} {N X A : Nat → Nat} {c f : Int32} {a1 a2 a3 a4 a5 a6 a7 a8 : Nat → Int32} {m s : Nat} {z : Nat × (Nat → Nat) × (Nat → Nat)} (hG : mm_G N X A a1 a2 a3) (hT : mm_TL N X A 11 a4) (hm : m < 2) (hs : s < N m) (hR : mm_R (N m) m z c a5 a6) (h0 : z.2.1 s = 0) (H : ∀ c' a5' a6', mm_R (N m) m (mm_ad (N m) (mm_lq X A m (N m)) z s) c' a5' a6' → post (c', f, a1, a2, a3, a4, a5', a6', a7, a8)) : wpX_admit post (c, f, a1, a2, a3, a4, a5, a6, a7, a8) (nI m) (nI (6 * m + s)) := by
  obtain ⟨r1, r2, r3, r4⟩ := hR
  have hn := (hG.1 m hm).2.2
  subst r1
  have hfull := mm_cn_full (P := fun t => decide (z.2.1 t ≠ 0)) hs (by rw [h0]; decide)
  refine mm_admit hG hT hm hs (by omega) (fun t ht => (r2 t ht).1) (fun a5' h5 => H _ _ _ ⟨rfl, fun t ht => ⟨h5 t ht, ?_⟩, fun k hk => ?_, ?_⟩)
  · show (if t < N m ∧ mm_lq X A m (N m) s t = true then z.1 + 1 else z.2.1 t) ≤ z.1 + 1
    have := (r2 t ht).2
    split <;> omega
  · have hk' : k < z.1 + 1 := hk
    show upd a6 z.1 (nI (6 * m + s)) k = nI (6 * m + mm_up z.2.2 z.1 s k) ∧ mm_up z.2.2 z.1 s k < N m
    by_cases d : k = z.1
    · rw [d, pk_us, mm_us]
      exact ⟨rfl, hs⟩
    · rw [pk_un d, mm_un d]
      exact r3 k (by omega)
  · show z.1 + 1 ≤ mm_cn (fun t => decide ((if t < N m ∧ mm_lq X A m (N m) s t = true then z.1 + 1 else z.2.1 t) ≠ 0)) (N m)
    have := mm_cn_lt (P := fun t => decide (z.2.1 t ≠ 0)) (P' := fun t => decide ((if t < N m ∧ mm_lq X A m (N m) s t = true then z.1 + 1 else z.2.1 t) ≠ 0)) (k := s) (N m) (fun j hj hj' => ?_) hs (by show decide (z.2.1 s ≠ 0) = false; rw [h0]; decide) ?_
    · omega
    · have hj2 : z.2.1 j ≠ 0 := of_decide_eq_true hj'
      apply decide_eq_true
      split <;> omega
    · apply decide_eq_true
      rw [if_pos ⟨hs, mm_lq_refl s hs⟩]
      omega
theorem mm_57 {post : St1 → Prop} {J : Int32 → Int32 → Int32 → (Nat → Int32) → (Nat → Int32) → (Nat → Int32) → (Nat → Int32) → (Nat → Int32) → (Nat → Int32) → (Nat → Int32) → (Nat → Int32) → Prop} {N X A : Nat → Nat} {c f : Int32} {a1 a2 a3 a4 a5 a6 a7 a8 : Nat → Int32} {m k l n : Nat} {z : Nat × (Nat → Nat) × (Nat → Nat)} (hG : mm_G N X A a1 a2 a3) (hT : mm_TL N X A 11 a4) (hm : m < 2) (hl : l < 2) (hR : mm_R (N m) m z c a5 a6) (hk : k < z.1) (H : ∀ c' a5' a6', mm_R (N m) m (mm_st (N m) (mm_lx X m (N m)) (mm_lq X A m (N m)) z k l) c' a5' a6' → wX_number_57 post J (nI m) (nI k) n (nI (l + 1)) c' f a1 a2 a3 a4 a5' a6' a7 a8) : wX_number_57 post J (nI m) (nI k) (n + 1) (nI l) c f a1 a2 a3 a4 a5 a6 a7 a8 := by
  obtain ⟨r1, r2, r3, r4⟩ := id hR
  have hn := (hG.1 m hm).2.2
  have hcn := mm_cn_le (fun t => decide (z.2.1 t ≠ 0)) (N m)
  obtain ⟨e6, hld⟩ := r3 k hk
  have hlv := mm_lv6 hG hm hld
  have hnx := mm_lvn hG hlv hl
  have ex : mm_nx X (6 * m + z.2.2 k) l = 6 * m + mm_lx X m (N m) (z.2.2 k) l := by
    rw [mm_lx_in hld hl]
    unfold mm_nx
    rw [show (6 * m + z.2.2 k) / 6 = m by omega, show 2 * (6 * m + z.2.2 k) + l = 12 * m + 2 * z.2.2 k + l by omega]
  have hpl : mm_lx X m (N m) (z.2.2 k) l < N m := by
    have h1 := hnx.1.2
    rw [hnx.2.1, hnx.2.2, show (6 * m + z.2.2 k) / 6 = m by omega] at h1
    rw [mm_lx_in hld hl, show 12 * m + 2 * z.2.2 k + l = 2 * (6 * m + z.2.2 k) + l by omega]
    exact h1
  refine pk_le 2 l (fun z => absurd z (by omega)) (fun _ => ⟨vp_in_nI (by omega) (by decide), ?_⟩)
  rw [nI_clamp (show k < 2 ^ 31 by omega), e6]
  refine mm_after hG hlv hl ?_
  rw [ex, nI_clamp (by omega), (r2 _ hpl).1]
  refine ⟨vp_in_nI (by omega) (by decide), ?_⟩
  unfold mm_st at H
  by_cases d : z.2.1 (mm_lx X m (N m) (z.2.2 k) l) = 0
  · rw [if_pos d] at H
    rw [d]
    exact br_t rfl (mm_admitR hG hT hm hpl hR d (fun c' a5' a6' hR' => nm_r (nI_1 l) (H c' a5' a6' hR')))
  · rw [if_neg d] at H
    have := (r2 _ hpl).2
    exact br_f (mm_encN d (by omega)) (nm_r (nI_1 l) (H c a5 a6 hR))
theorem mm_st_1 {n k l : Nat} {nx : Nat → Nat → Nat} {e : Nat → Nat → Bool} {z : Nat × (Nat → Nat) × (Nat → Nat)} : z.1 ≤ (mm_st n nx e z k l).1 := by
  unfold mm_st
  by_cases d : z.2.1 (nx (z.2.2 k) l) = 0
  · rw [if_pos d]; exact Nat.le_succ _
  · rw [if_neg d]; exact Nat.le_refl _
theorem mm_41 {post : St1 → Prop} {N X A : Nat → Nat} {f : Int32} {a1 a2 a3 a4 a7 a8 : Nat → Int32} {m : Nat} (hG : mm_G N X A a1 a2 a3) (hT : mm_TL N X A 11 a4) (hm : m < 2) : ∀ j k z c a5 a6, k + j = 6 → mm_R (N m) m z c a5 a6 → (∀ a5' a6', post (nI (mm_co (N m) (mm_lx X m (N m)) (mm_lq X A m (N m)) j k z), f, a1, a2, a3, a4, a5', a6', a7, a8)) → wX_number_41 post (nI m) (j + 1) (nI k) c f a1 a2 a3 a4 a5 a6 a7 a8 := by
  intro j
  induction j with
  | zero =>
    intro k z c a5 a6 hk hR H
    have hc := hR.1
    subst hc
    exact pk_le 6 k (fun _ => H a5 a6) (fun z => absurd z (by omega))
  | succ j ih =>
    intro k z c a5 a6 hk hR H
    have hc := hR.1
    subst hc
    have hn := (hG.1 m hm).2.2
    have hcn := mm_cn_le (fun t => decide (z.2.1 t ≠ 0)) (N m)
    have h4 := hR.2.2.2
    refine pk_le 6 k (fun z => absurd z (by omega)) (fun _ => pk_le z.1 k (fun d => ?_) (fun d => ⟨0 + 1 + 1 + 1, ?_⟩))
    · have e : mm_co (N m) (mm_lx X m (N m)) (mm_lq X A m (N m)) (j + 1) k z = z.1 := if_pos d
      rw [e] at H
      exact H a5 a6
    · have e : mm_co (N m) (mm_lx X m (N m)) (mm_lq X A m (N m)) (j + 1) k z = mm_co (N m) (mm_lx X m (N m)) (mm_lq X A m (N m)) j (k + 1) (mm_st (N m) (mm_lx X m (N m)) (mm_lq X A m (N m)) (mm_st (N m) (mm_lx X m (N m)) (mm_lq X A m (N m)) z k 0) k 1) := if_neg (by omega)
      rw [e] at H
      have s1 := mm_st_1 (n := N m) (k := k) (l := 0) (nx := mm_lx X m (N m)) (e := mm_lq X A m (N m)) (z := z)
      exact mm_57 (l := 0) hG hT hm (by decide) hR d (fun c1 b5 b6 R1 => mm_57 (l := 1) hG hT hm (by decide) R1 (by omega) (fun c2 d5 d6 R2 => pk_le 2 2 (fun _ => nm_r (nI_1 k) (ih (k + 1) _ c2 d5 d6 (by omega) R2 H)) (fun z => absurd z (by omega))))
theorem mm_number {post : St1 → Prop} {N X A : Nat → Nat} {c f : Int32} {a1 a2 a3 a4 a5 a6 a7 a8 : Nat → Int32} {m : Nat} (hS : mm_S N X A (c, f, a1, a2, a3, a4, a5, a6, a7, a8)) (hm : m < 2) (H : ∀ f' a4' a5' a6', mm_S N X A (nI (mm_core (N m) (mm_lx X m (N m)) (mm_lq X A m (N m))), f', a1, a2, a3, a4', a5', a6', a7, a8) → post (nI (mm_core (N m) (mm_lx X m (N m)) (mm_lq X A m (N m))), f', a1, a2, a3, a4', a5', a6', a7, a8)) : wpX_number post (c, f, a1, a2, a3, a4, a5, a6, a7, a8) (nI m) := by
  have hG : mm_G N X A a1 a2 a3 := hS.1
  have hn := (hG.1 m hm).2
  unfold wpX_number
  dsimp only
  refine mm_refresh hS (fun f' a4' hS' hT => ?_)
  show ∃ fu6 : Nat, wX_number_6 post (nI m) c f' fu6 0 a1 a2 a3 a4' a5 a6 a7 a8
  refine pk_loop (fun n i b => wX_number_6 post (nI m) c f' n (nI i) a1 a2 a3 a4' b a6 a7 a8) (fun i b => ∀ t, t < i → b t = -1) 12 0 a5 (by omega) (fun t ht => absurd ht (by omega)) ?_ ?_
  · intro n b hI
    show wX_number_6 post (nI m) c f' (n + 1) (nI 12) a1 a2 a3 a4' b a6 a7 a8
    refine pk_le 12 12 (fun _ => ?_) (fun z => absurd z (by omega))
    rw [mm_l6]
    refine mm_admitR (s := 0) (z := (0, fun _ => 0, fun _ => 0)) hG hT hm (by omega) ⟨rfl, fun t ht => ⟨?_, Nat.le_refl 0⟩, fun k hk => absurd hk (Nat.not_lt_zero k), Nat.zero_le _⟩ rfl (fun c1 b5 b6 R1 => ⟨7, ?_⟩)
    · show b (6 * m + t) = -1
      exact hI _ (by omega)
    · exact mm_41 hG hT hm 6 0 _ c1 b5 b6 (by decide) R1 (fun d5 d6 => H f' a4' d5 d6 ⟨hG, fun _ => hT⟩)
  · intro n i b hi hI hw
    show wX_number_6 post (nI m) c f' (n + 1) (nI i) a1 a2 a3 a4' b a6 a7 a8
    refine pk_le 12 i (fun z => absurd z (by omega)) (fun _ => ⟨vp_in_nI hi (by decide), nm_r (by rw [nI_clamp (show i < 2 ^ 31 by omega)]) (nm_r (nI_1 i) (hw _ (fun t ht => ?_)))⟩)
    by_cases d : t = i
    · rw [d, pk_us]
    · rw [pk_un d]
      exact hI t (by omega)
theorem mm_coreX {post : Int32 → St1 → Prop} {N X A : Nat → Nat} {c f : Int32} {a1 a2 a3 a4 a5 a6 a7 a8 : Nat → Int32} {m : Nat} (hS : mm_S N X A (c, f, a1, a2, a3, a4, a5, a6, a7, a8)) (hm : m < 2) (H : ∀ c f a1 a2 a3 a4 a5 a6 a7 a8, mm_S N X A (c, f, a1, a2, a3, a4, a5, a6, a7, a8) → post (nI (mm_core (N m) (mm_lx X m (N m)) (mm_lq X A m (N m)))) (c, f, a1, a2, a3, a4, a5, a6, a7, a8)) : wpX_core post (c, f, a1, a2, a3, a4, a5, a6, a7, a8) (nI m) := by
  unfold wpX_core
  dsimp only
  exact mm_isM hm (br_f (by decide) (mm_number hS hm (fun f' a4' a5' a6' hS' => H _ _ _ _ _ _ _ _ _ _ hS')))
/-! classes -/
theorem mm_33 {post : Int32 → St1 → Prop} {J : Int32 → Int32 → Prop} {N X A : Nat → Nat} {c f : Int32} {a1 a2 a3 a4 a5 a6 a7 a8 : Nat → Int32} {m s v : Nat} (hG : mm_G N X A a1 a2 a3) (hT : mm_TL N X A 11 a4) (hm : m < 2) (hs : s < N m) (H : J (nI (v + (if mm_fr (mm_lq X A m (N m)) s s = true then 1 else 0))) (nI (s + 1))) : ∀ j r, r + j = s → wX_classes_33 post J (nI m) (nI v) (nI s) c f a1 a2 a3 a4 a5 a6 a7 a8 (j + 1) (nI (mm_fr (mm_lq X A m (N m)) s r).toNat) (nI r) := by
  have hn := (hG.1 m hm).2.2
  intro j
  induction j with
  | zero =>
    intro r hr
    have : r = s := by omega
    subst this
    refine pk_le r r (fun _ => ?_) (fun z => absurd z (by omega))
    cases b : mm_fr (mm_lq X A m (N m)) r r with
    | false =>
      rw [b] at H
      exact br_t rfl (nm_r (nI_add v 0) (nm_r (nI_1 r) H))
    | true =>
      rw [b] at H
      exact br_f (by decide) (nm_r (nI_1 v) (nm_r (nI_1 r) H))
  | succ j ih =>
    intro r hr
    have hrn : r < N m := by omega
    have ih' := ih (r + 1) (by omega)
    refine pk_le s r (fun z => absurd z (by omega)) (fun _ => ?_)
    have ef : mm_fr (mm_lq X A m (N m)) s (r + 1) = (mm_fr (mm_lq X A m (N m)) s r && !(mm_lq X A m (N m) r s)) := rfl
    rw [ef] at ih'
    cases b : mm_fr (mm_lq X A m (N m)) s r with
    | false =>
      rw [b] at ih'
      exact br_t rfl (nm_r (nI_1 r) ih')
    | true =>
      rw [b, mm_lq_in hrn hs] at ih'
      obtain ⟨t, t1, t2⟩ := hT (6 * m + r) (6 * m + s) (mm_lv6 hG hm hrn) (mm_lv6 hG hm hs)
      have tl := mm_D_le t2
      have t0 := mm_D0 t2
      refine br_f (by decide) ?_
      rw [mm_i6, mm_l6, mm_l12, nI_add, nI_add, show 12 * (6 * m + r) + 6 * m + s = 12 * (6 * m + r) + (6 * m + s) by omega, nI_clamp (by omega), t1]
      refine ⟨vp_in_nI (by omega) (by decide), pk_eq t 0 (fun e => nm_r (nI_1 r) ?_) (fun e => nm_r (nI_1 r) ?_)⟩
      · rw [t0.mp e] at ih'
        exact ih'
      · have e' : mm_eq X A 11 (6 * m + r) (6 * m + s) = false := by
          cases g : mm_eq X A 11 (6 * m + r) (6 * m + s) with
          | false => rfl
          | true => exact absurd (t0.mpr g) e
        rw [e'] at ih'
        exact ih'
theorem mm_17 {post : Int32 → St1 → Prop} {N X A : Nat → Nat} {c f : Int32} {a1 a2 a3 a4 a5 a6 a7 a8 : Nat → Int32} {m : Nat} (hG : mm_G N X A a1 a2 a3) (hT : mm_TL N X A 11 a4) (hm : m < 2) (H : post (nI (mm_cl (mm_lq X A m (N m)) (N m))) (c, f, a1, a2, a3, a4, a5, a6, a7, a8)) : ∀ j s, s + j = N m → wX_classes_17 post (nI m) c f a1 a2 a3 a4 a5 a6 a7 a8 (j + 1) (nI (mm_cl (mm_lq X A m (N m)) s)) (nI s) := by
  have hn := (hG.1 m hm).2.2
  intro j
  induction j with
  | zero =>
    intro s hs
    have : s = N m := by omega
    subst this
    refine And.intro (vp_in_nI hm (by decide)) ?_
    rw [nI_clamp (show m < 2 ^ 31 by omega), (hG.1 m hm).1]
    exact pk_le (N m) (N m) (fun _ => H) (fun z => absurd z (by omega))
  | succ j ih =>
    intro s hs
    refine And.intro (vp_in_nI hm (by decide)) ?_
    rw [nI_clamp (show m < 2 ^ 31 by omega), (hG.1 m hm).1]
    exact pk_le (N m) s (fun z => absurd z (by omega)) (fun _ => ⟨s + 1, mm_33 hG hT hm (by omega) (ih (s + 1) (by omega)) s 0 (by omega)⟩)
theorem mm_classes {post : Int32 → St1 → Prop} {N X A : Nat → Nat} {c f : Int32} {a1 a2 a3 a4 a5 a6 a7 a8 : Nat → Int32} {m : Nat} (hS : mm_S N X A (c, f, a1, a2, a3, a4, a5, a6, a7, a8)) (hm : m < 2) (H : ∀ c f a1 a2 a3 a4 a5 a6 a7 a8, mm_S N X A (c, f, a1, a2, a3, a4, a5, a6, a7, a8) → post (nI (mm_cl (mm_lq X A m (N m)) (N m))) (c, f, a1, a2, a3, a4, a5, a6, a7, a8)) : wpX_classes post (c, f, a1, a2, a3, a4, a5, a6, a7, a8) (nI m) := by
  have hG : mm_G N X A a1 a2 a3 := hS.1
  unfold wpX_classes
  dsimp only
  refine mm_isM hm (br_f (by decide) (mm_refresh hS (fun f' a4' hS' hT => ⟨N m + 1, ?_⟩)))
  exact mm_17 hG hT hm (H _ _ _ _ _ _ _ _ _ _ hS') (N m) 0 (by omega)
end
section
theorem mm_or_tab : ∀ T, T < 64 → ∀ x, x < 6 → nI T ||| ((1 : Int32) <<< (nI x &&& 31)) = nI (T ||| (1 <<< x)) := by decide +kernel
theorem mm_one_tab : ∀ S, S < 64 → ((nI S &&& (nI S - 1) = 0) ↔ (S &&& (S - 1) = 0)) := by decide +kernel
theorem mm_all_tab : ∀ n, n < 7 → ((1 : Int32) <<< (nI n &&& 31)) - 1 = nI (2 ^ n - 1) ∧ 2 ^ n - 1 < 64 := by decide +kernel
theorem mm_lx_lt {N X A : Nat → Nat} {a1 a2 a3 : Nat → Int32} {m s l : Nat} (hG : mm_G N X A a1 a2 a3) (hm : m < 2) (hs : s < N m) (hl : l < 2) : mm_lx X m (N m) s l < N m := by
  rw [mm_lx_in hs hl, show 12 * m + 2 * s + l = 12 * m + (2 * s + l) by omega]
  exact hG.2.2 m (2 * s + l) hm (by omega)
theorem mm_tog {post : Int32 → Prop} {N X A : Nat → Nat} {c f : Int32} {a1 a2 a3 a4 a5 a6 a7 a8 : Nat → Int32} {m S l : Nat} (hG : mm_G N X A a1 a2 a3) (hm : m < 2) (hS : S < 64) (hl : l < 2) (H : mm_tg (mm_lx X m (N m)) S l (N m) < 64 → post (nI (mm_tg (mm_lx X m (N m)) S l (N m)))) : wpX_together post (c, f, a1, a2, a3, a4, a5, a6, a7, a8) (nI m) (nI S) (nI l) := by
  have hn := (hG.1 m hm).2.2
  have hlt : ∀ k, k ≤ N m → mm_tg (mm_lx X m (N m)) S l k < 2 ^ 6 := fun k hk => mm_tg_lt k (fun s hs => by
    have := mm_lx_lt hG hm (show s < N m by omega) hl
    omega)
  have main : ∀ j s, s + j = N m → wX_together_6 post (nI m) (nI S) (nI l) c f a1 a2 a3 a4 a5 a6 a7 a8 (j + 1) (nI (mm_tg (mm_lx X m (N m)) S l s)) (nI s) := by
    intro j
    induction j with
    | zero =>
      intro s hs
      have : s = N m := by omega
      subst this
      refine And.intro (vp_in_nI hm (by decide)) ?_
      rw [nI_clamp (show m < 2 ^ 31 by omega), (hG.1 m hm).1]
      exact pk_le (N m) (N m) (fun _ => H (hlt _ (Nat.le_refl _))) (fun z => absurd z (by omega))
    | succ j ih =>
      intro s hs
      have ih' := ih (s + 1) (by omega)
      have et : mm_tg (mm_lx X m (N m)) S l (s + 1) = if S.testBit s = true then mm_tg (mm_lx X m (N m)) S l s ||| (1 <<< mm_lx X m (N m) s l) else mm_tg (mm_lx X m (N m)) S l s := rfl
      have eb : S.testBit s = decide (S / 2 ^ s % 2 = 1) := Nat.testBit_eq_decide_div_mod_eq
      have hx := mm_lx_lt hG hm (show s < N m by omega) hl
      rw [et, eb] at ih'
      refine And.intro (vp_in_nI hm (by decide)) ?_
      rw [nI_clamp (show m < 2 ^ 31 by omega), (hG.1 m hm).1, mm_bit (by omega) (by omega)]
      refine pk_le (N m) s (fun z => absurd z (by omega)) (fun _ => ?_)
      have hb : S / 2 ^ s % 2 < 2 := Nat.mod_lt _ (by decide)
      refine pk_eq (S / 2 ^ s % 2) 1 (fun e => ?_) (fun e => ?_)
      · rw [if_pos (decide_eq_true e)] at ih'
        have ex := mm_lx_in (X := X) (m := m) (n := N m) (s := s) (l := l) (by omega) hl
        have hT : mm_tg (mm_lx X m (N m)) S l s < 2 ^ 6 := hlt s (by omega)
        rw [mm_l12, mm_l2, nI_add, nI_add, nI_clamp (by omega), (hG.2.1 (12 * m + 2 * s + l) (by omega)).1, ← ex]
        exact ⟨vp_in_nI (by omega) (by decide), nm_r (mm_or_tab _ hT _ (by omega)) (nm_r (nI_1 s) ih')⟩
      · rw [if_neg (fun g => e (of_decide_eq_true g))] at ih'
        exact nm_r (nI_1 s) ih'
  unfold wpX_together
  dsimp only
  exact ⟨N m + 1, main (N m) 0 (by omega)⟩
def mm_Q (z : Nat × (Nat → Nat) × (Nat → Nat)) (x : Int32) (a7 a8 : Nat → Int32) : Prop := x = nI z.1 ∧ (∀ i, i < z.1 → a7 i = nI (z.2.1 i) ∧ z.2.1 i < 64 ∧ z.2.2 (z.2.1 i) ≠ 0) ∧ (∀ S, S < 64 → a8 S = nI (z.2.2 S) ∧ z.2.2 S < 4096) ∧ z.1 ≤ mm_cn (fun S => decide (z.2.2 S ≠ 0)) 64
theorem mm_rt_w {nx : Nat → Nat → Nat} {n S l : Nat} {z : Nat × (Nat → Nat) × (Nat → Nat)} (h : z.2.2 S ≠ 0) : (mm_rt n nx z S l).2.2 S = z.2.2 S := by
  unfold mm_rt
  by_cases c : z.2.2 S < 2048 ∧ z.2.2 (mm_tg nx S l n) = 0
  · rw [if_pos c]
    exact mm_un (fun g => h (by rw [g]; exact c.2))
  · rw [if_neg c]
theorem mm_rt_no {nx : Nat → Nat → Nat} {n S l : Nat} {z : Nat × (Nat → Nat) × (Nat → Nat)} (h : 2048 ≤ z.2.2 S) : mm_rt n nx z S l = z := by
  unfold mm_rt
  rw [if_neg (fun g => absurd g.1 (by omega))]
theorem mm_103 {post : Int32 → St1 → Prop} {J : Int32 → Int32 → (Nat → Int32) → (Nat → Int32) → (Nat → Int32) → (Nat → Int32) → (Nat → Int32) → (Nat → Int32) → (Nat → Int32) → (Nat → Int32) → Prop} {N X A : Nat → Nat} {c f x : Int32} {a1 a2 a3 a4 a5 a6 a7 a8 : Nat → Int32} {m i S l n : Nat} {z : Nat × (Nat → Nat) × (Nat → Nat)} (hG : mm_G N X A a1 a2 a3) (hm : m < 2) (hl : l < 2) (hS : S < 64) (h0 : z.2.2 S ≠ 0) (hQ : mm_Q z x a7 a8) (Hge : 2048 ≤ z.2.2 S → J x (nI i + 1) a1 a2 a3 a4 a5 a6 a7 a8) (Hlt : ∀ x' a7' a8', mm_Q (mm_rt (N m) (mm_lx X m (N m)) z S l) x' a7' a8' → wX_reset_103 post J (nI m) (nI i) (nI S) c f n x' (nI (l + 1)) a1 a2 a3 a4 a5 a6 a7' a8') : wX_reset_103 post J (nI m) (nI i) (nI S) c f (n + 1) x (nI l) a1 a2 a3 a4 a5 a6 a7 a8 := by
  obtain ⟨r1, r2, r3, r4⟩ := id hQ
  obtain ⟨e8, b8⟩ := r3 S hS
  subst r1
  refine pk_le 2 l (fun z => absurd z (by omega)) (fun _ => ⟨vp_in_nI hS (by decide), ?_⟩)
  rw [nI_clamp (show S < 2 ^ 31 by omega), e8]
  refine pk_le 2048 (z.2.2 S) (fun g => nm_e (Hge g)) (fun g => mm_tog hG hm hS hl (fun hT => ?_))
  obtain ⟨eT, bT⟩ := r3 _ hT
  rw [nI_clamp (show mm_tg (mm_lx X m (N m)) S l (N m) < 2 ^ 31 by omega), eT]
  refine ⟨vp_in_nI hT (by decide), ?_⟩
  unfold mm_rt at Hlt
  by_cases d : z.2.2 (mm_tg (mm_lx X m (N m)) S l (N m)) = 0
  · rw [if_pos ⟨g, d⟩] at Hlt
    rw [d]
    have hfull := mm_cn_full (P := fun S => decide (z.2.2 S ≠ 0)) hT (by rw [d]; decide)
    refine br_t rfl ⟨vp_in_nI hS (by decide), vp_in_nI hT (by decide), ?_⟩
    rw [mm_l2, nI_add, nI_clamp (show z.1 < 2 ^ 31 by omega)]
    refine nm_e ⟨vp_in_nI (by omega) (by decide), nm_e (nm_r (nI_1 _) (nm_r (nI_1 l) (Hlt _ _ _ ⟨rfl, fun k hk => ?_, fun S' hS' => ?_, ?_⟩)))⟩
    · have hk' : k < z.1 + 1 := hk
      show upd a7 z.1 (nI (mm_tg (mm_lx X m (N m)) S l (N m))) k = nI (mm_up z.2.1 z.1 (mm_tg (mm_lx X m (N m)) S l (N m)) k) ∧ mm_up z.2.1 z.1 (mm_tg (mm_lx X m (N m)) S l (N m)) k < 64 ∧ mm_up z.2.2 (mm_tg (mm_lx X m (N m)) S l (N m)) (2 * z.2.2 S + l) (mm_up z.2.1 z.1 (mm_tg (mm_lx X m (N m)) S l (N m)) k) ≠ 0
      by_cases e : k = z.1
      · rw [e, pk_us, mm_us, mm_us]
        exact ⟨rfl, hT, by omega⟩
      · obtain ⟨q1, q2, q3⟩ := r2 k (by omega)
        rw [pk_un e, mm_un e, mm_un (fun g => q3 (by rw [g]; exact d))]
        exact ⟨q1, q2, q3⟩
    · show upd a8 (mm_tg (mm_lx X m (N m)) S l (N m)) (nI (2 * z.2.2 S + l)) S' = nI (mm_up z.2.2 (mm_tg (mm_lx X m (N m)) S l (N m)) (2 * z.2.2 S + l) S') ∧ mm_up z.2.2 (mm_tg (mm_lx X m (N m)) S l (N m)) (2 * z.2.2 S + l) S' < 4096
      by_cases e : S' = mm_tg (mm_lx X m (N m)) S l (N m)
      · rw [e, pk_us, mm_us]
        exact ⟨rfl, by omega⟩
      · rw [pk_un e, mm_un e]
        exact r3 S' hS'
    · show z.1 + 1 ≤ mm_cn (fun S' => decide (mm_up z.2.2 (mm_tg (mm_lx X m (N m)) S l (N m)) (2 * z.2.2 S + l) S' ≠ 0)) 64
      have := mm_cn_lt (P := fun S => decide (z.2.2 S ≠ 0)) (P' := fun S' => decide (mm_up z.2.2 (mm_tg (mm_lx X m (N m)) S l (N m)) (2 * z.2.2 S + l) S' ≠ 0)) (k := mm_tg (mm_lx X m (N m)) S l (N m)) 64 (fun j hj hj' => ?_) hT (by show decide (z.2.2 (mm_tg (mm_lx X m (N m)) S l (N m)) ≠ 0) = false; rw [d]; decide) ?_
      · omega
      · have hj2 : z.2.2 j ≠ 0 := of_decide_eq_true hj'
        apply decide_eq_true
        rw [mm_un (fun g => hj2 (by rw [g]; exact d))]
        exact hj2
      · apply decide_eq_true
        rw [mm_us]
        omega
  · rw [if_neg (fun g => d g.2)] at Hlt
    exact br_f (nI_ne0 (by omega) (by omega)) (nm_r (nI_1 l) (Hlt _ _ _ hQ))
theorem mm_60 {post : Int32 → St1 → Prop} {N X A : Nat → Nat} {c f : Int32} {a1 a2 a3 a4 a5 a6 : Nat → Int32} {m : Nat} (hG : mm_G N X A a1 a2 a3) (hm : m < 2) : ∀ j i z x a7 a8, i + j = 64 → mm_Q z x a7 a8 → (∀ a7' a8', post (nI (mm_rl (N m) (mm_lx X m (N m)) j i z)) (c, f, a1, a2, a3, a4, a5, a6, a7', a8')) → wX_reset_60 post (nI m) c f (j + 1) x (nI i) a1 a2 a3 a4 a5 a6 a7 a8 := by
  intro j
  induction j with
  | zero =>
    intro i z x a7 a8 hi hQ H
    exact pk_le 64 i (fun _ => H a7 a8) (fun z => absurd z (by omega))
  | succ j ih =>
    intro i z x a7 a8 hi hQ H
    obtain ⟨r1, r2, r3, r4⟩ := id hQ
    have hcn := mm_cn_le (fun S => decide (z.2.2 S ≠ 0)) 64
    subst r1
    have e : mm_rl (N m) (mm_lx X m (N m)) (j + 1) i z = if z.1 ≤ i then 0 else if z.2.1 i &&& (z.2.1 i - 1) = 0 then z.2.2 (z.2.1 i) else mm_rl (N m) (mm_lx X m (N m)) j (i + 1) (mm_rt (N m) (mm_lx X m (N m)) (mm_rt (N m) (mm_lx X m (N m)) z (z.2.1 i) 0) (z.2.1 i) 1) := rfl
    rw [e] at H
    refine pk_le 64 i (fun z => absurd z (by omega)) (fun _ => pk_le z.1 i (fun d => ?_) (fun d => ⟨vp_in_nI (by omega) (by decide), ?_⟩))
    · rw [if_pos d] at H
      exact H a7 a8
    · rw [if_neg (by omega)] at H
      obtain ⟨q1, q2, q3⟩ := r2 i d
      refine nm_r (by rw [nI_clamp (show i < 2 ^ 31 by omega), q1]) (ek_if (mm_one_tab _ q2) (fun g => ?_) (fun g => ⟨0 + 1 + 1 + 1, ?_⟩))
      · rw [if_pos g] at H
        rw [nI_clamp (by omega), (r3 _ q2).1]
        exact ⟨vp_in_nI q2 (by decide), H a7 a8⟩
      · rw [if_neg g] at H
        refine mm_103 (l := 0) hG hm (by decide) q2 q3 hQ (fun ge => ?_) (fun x1 b7 b8 Q1 => ?_)
        · rw [mm_rt_no ge, mm_rt_no ge] at H
          rw [nI_1]
          exact ih (i + 1) z _ a7 a8 (by omega) hQ H
        · have w1 := mm_rt_w (nx := mm_lx X m (N m)) (n := N m) (l := 0) q3
          refine mm_103 (l := 1) hG hm (by decide) q2 (by rw [w1]; exact q3) Q1 (fun ge => ?_) (fun x2 d7 d8 Q2 => ?_)
          · rw [mm_rt_no ge] at H
            rw [nI_1]
            exact ih (i + 1) _ _ b7 b8 (by omega) Q1 H
          · exact pk_le 2 2 (fun _ => nm_r (nI_1 i) (ih (i + 1) _ _ d7 d8 (by omega) Q2 H)) (fun z => absurd z (by omega))
theorem mm_resetX {post : Int32 → St1 → Prop} {N X A : Nat → Nat} {c f : Int32} {a1 a2 a3 a4 a5 a6 a7 a8 : Nat → Int32} {m : Nat} (hS : mm_S N X A (c, f, a1, a2, a3, a4, a5, a6, a7, a8)) (hm : m < 2) (H : ∀ c f a1 a2 a3 a4 a5 a6 a7 a8, mm_S N X A (c, f, a1, a2, a3, a4, a5, a6, a7, a8) → post (nI (mm_reset (N m) (mm_lx X m (N m)))) (c, f, a1, a2, a3, a4, a5, a6, a7, a8)) : wpX_reset post (c, f, a1, a2, a3, a4, a5, a6, a7, a8) (nI m) := by
  have hG : mm_G N X A a1 a2 a3 := hS.1
  have hn := (hG.1 m hm).2
  obtain ⟨ea, ba⟩ := mm_all_tab (N m) (by omega)
  unfold wpX_reset
  dsimp only
  refine mm_isM hm (br_f (by decide) ?_)
  refine pk_loop (fun n i b => wX_reset_11 post (nI m) c f n (nI i) a1 a2 a3 a4 a5 a6 a7 b) (fun i b => ∀ S, S < i → b S = 0) 64 0 a8 (by omega) (fun t ht => absurd ht (by omega)) ?_ ?_
  · intro n b hI
    show wX_reset_11 post (nI m) c f (n + 1) (nI 64) a1 a2 a3 a4 a5 a6 a7 b
    refine pk_le 64 64 (fun _ => ⟨vp_in_nI hm (by decide), ?_⟩) (fun z => absurd z (by omega))
    rw [nI_clamp (show m < 2 ^ 31 by omega), (hG.1 m hm).1]
    refine nm_r ea ⟨vp_in_nI ba (by decide), ?_⟩
    rw [nI_clamp (show 2 ^ N m - 1 < 2 ^ 31 by omega)]
    refine nm_e (nm_e ⟨65, mm_60 hG hm 64 0 (1, mm_up (fun _ => 0) 0 (2 ^ N m - 1), mm_up (fun _ => 0) (2 ^ N m - 1) 1) 1 _ _ (by decide) ⟨rfl, fun k hk => ?_, fun S hS => ?_, ?_⟩ (fun a7' a8' => H _ _ _ _ _ _ _ _ _ _ hS)⟩)
    · have hk' : k < 1 := hk
      have hk0 : k = 0 := by omega
      subst hk0
      show upd a7 0 (nI (2 ^ N m - 1)) 0 = nI (mm_up (fun _ => 0) 0 (2 ^ N m - 1) 0) ∧ mm_up (fun _ => 0) 0 (2 ^ N m - 1) 0 < 64 ∧ mm_up (fun _ => 0) (2 ^ N m - 1) 1 (mm_up (fun _ => 0) 0 (2 ^ N m - 1) 0) ≠ 0
      rw [pk_us, mm_us, mm_us]
      exact ⟨rfl, ba, by decide⟩
    · show upd b (2 ^ N m - 1) 1 S = nI (mm_up (fun _ => 0) (2 ^ N m - 1) 1 S) ∧ mm_up (fun _ => 0) (2 ^ N m - 1) 1 S < 4096
      by_cases e : S = 2 ^ N m - 1
      · rw [e, pk_us, mm_us]
        exact ⟨rfl, by decide⟩
      · rw [pk_un e, mm_un e]
        exact ⟨hI S hS, by decide⟩
    · show 1 ≤ mm_cn (fun S => decide (mm_up (fun _ => 0) (2 ^ N m - 1) 1 S ≠ 0)) 64
      have := mm_cn_lt (P := fun _ => false) (P' := fun S => decide (mm_up (fun _ => 0) (2 ^ N m - 1) 1 S ≠ 0)) (k := 2 ^ N m - 1) 64 (fun j hj hj' => absurd hj' (by decide)) ba rfl (by apply decide_eq_true; rw [mm_us]; decide)
      omega
  · intro n i b hi hI hw
    show wX_reset_11 post (nI m) c f (n + 1) (nI i) a1 a2 a3 a4 a5 a6 a7 b
    refine pk_le 64 i (fun z => absurd z (by omega)) (fun _ => ⟨vp_in_nI hi (by decide), nm_r (by rw [nI_clamp (show i < 2 ^ 31 by omega)]) (nm_r (nI_1 i) (hw _ (fun t ht => ?_)))⟩)
    by_cases d : t = i
    · rw [d, pk_us]
    · rw [pk_un d]
      exact hI t (by omega)
end
section
/-! the methods that change the machines -/
def mm_B (X A : Nat → Nat) (a2 a3 : Nat → Int32) : Prop := ∀ k, k < 24 → a2 k = nI (X k) ∧ a3 k = nI (A k) ∧ X k < 6 ∧ A k < 4
theorem mm_B_up {X A : Nat → Nat} {a2 a3 : Nat → Int32} {d v w : Nat} (h : mm_B X A a2 a3) (hv : v < 6) (hw : w < 4) : mm_B (mm_up X d v) (mm_up A d w) (upd a2 d (nI v)) (upd a3 d (nI w)) := by
  intro k hk
  by_cases e : k = d
  · subst e
    rw [pk_us, pk_us, mm_us, mm_us]
    exact ⟨rfl, rfl, hv, hw⟩
  · rw [pk_un e, pk_un e, mm_un e, mm_un e]
    exact h k hk
/-- the tables of machine o are the same -/
def mm_ag (o : Nat) (X A X' A' : Nat → Nat) : Prop := ∀ k, k < 12 → X' (12 * o + k) = X (12 * o + k) ∧ A' (12 * o + k) = A (12 * o + k)
theorem mm_ag_refl {o : Nat} {X A : Nat → Nat} : mm_ag o X A X A := fun _ _ => ⟨rfl, rfl⟩
theorem mm_ag_trans {o : Nat} {X A X' A' X'' A'' : Nat → Nat} (h : mm_ag o X A X' A') (g : mm_ag o X' A' X'' A'') : mm_ag o X A X'' A'' := fun k hk => ⟨(g k hk).1.trans (h k hk).1, (g k hk).2.trans (h k hk).2⟩
theorem mm_ag_up {o m k v w : Nat} {X A X' A' : Nat → Nat} (ho : o + m = 1) (hk : k < 12) (h : mm_ag o X A X' A') : mm_ag o X A (mm_up X' (12 * m + k) v) (mm_up A' (12 * m + k) w) := by
  intro j hj
  rw [mm_un (by omega), mm_un (by omega)]
  exact h j hj
theorem mm_notM {post : Int32 → Prop} {p : Int32} (h0 : ¬ p = 0) (h1 : ¬ p = 1) (h : post 0) : wpX_isMachine post () p := br_f h0 (br_f h1 h)
theorem mm_size {post : Int32 → St1 → Prop} {N X A : Nat → Nat} {c f : Int32} {a1 a2 a3 a4 a5 a6 a7 a8 : Nat → Int32} {m n o : Nat} (hS : mm_S N X A (c, f, a1, a2, a3, a4, a5, a6, a7, a8)) (hm : m < 2) (ho : o + m = 1) (h1 : 1 ≤ n) (h6 : n ≤ 6) (H : ∀ X' A' c f a1 a2 a3 a4 a5 a6 a7 a8, mm_S (mm_up N m n) X' A' (c, f, a1, a2, a3, a4, a5, a6, a7, a8) → mm_ag o X A X' A' → (∀ k, k < 12 → X' (12 * m + k) = 0 ∧ A' (12 * m + k) = 0) → post (nI (N m)) (c, f, a1, a2, a3, a4, a5, a6, a7, a8)) : wpX_size post (c, f, a1, a2, a3, a4, a5, a6, a7, a8) (nI m) (nI n) := by
  have hG : mm_G N X A a1 a2 a3 := hS.1
  unfold wpX_size
  dsimp only
  refine mm_isM hm (br_f (by decide) (pk_lt n 1 (fun z => absurd z (by omega)) (fun _ => pk_le n 6 (fun _ => ⟨vp_in_nI hm (by decide), ?_⟩) (fun z => absurd z (by omega)))))
  rw [nI_clamp (show m < 2 ^ 31 by omega), (hG.1 m hm).1]
  refine nm_e ⟨vp_in_nI hm (by decide), nm_e (nm_r (mm_l12 m) ?_)⟩
  refine pk_loop (fun k i (s : (Nat → Int32) × (Nat → Int32)) => wX_size_43 post (nI m) (nI (N m)) c f k (nI i) (upd a1 m (nI n)) s.1 s.2 a4 a5 a6 a7 a8) (fun i s => 12 * m ≤ i ∧ ∃ X' A', mm_B X' A' s.1 s.2 ∧ mm_ag o X A X' A' ∧ (∀ k, k < i - 12 * m → X' (12 * m + k) = 0 ∧ A' (12 * m + k) = 0)) (12 * m + 12) (12 * m) (a2, a3) (by omega) ⟨Nat.le_refl _, X, A, hG.2.1, mm_ag_refl, fun k hk => absurd hk (by omega)⟩ ?_ ?_
  · rintro k ⟨b2, b3⟩ ⟨_, X', A', hB, hA, hZ⟩
    show wX_size_43 post (nI m) (nI (N m)) c f (k + 1) (nI (12 * m + 12)) (upd a1 m (nI n)) b2 b3 a4 a5 a6 a7 a8
    refine pk_le (12 * m + 12) (12 * m + 12) (fun _ => ?_) (fun z => absurd z (by omega)) (by rw [mm_l12]; exact nI_add (12 * m) 12)
    have hZ' : ∀ k, k < 12 → X' (12 * m + k) = 0 ∧ A' (12 * m + k) = 0 := fun k hk => hZ k (by omega)
    refine H X' A' _ _ _ _ _ _ _ _ _ _ ⟨⟨fun j hj => ?_, hB, fun j k hj hk => ?_⟩, fun z => absurd rfl z⟩ hA hZ'
    · show upd a1 m (nI n) j = nI (mm_up N m n j) ∧ 1 ≤ mm_up N m n j ∧ mm_up N m n j ≤ 6
      by_cases e : j = m
      · rw [e, pk_us, mm_us]
        exact ⟨rfl, h1, h6⟩
      · rw [pk_un e, mm_un e]
        exact hG.1 j hj
    · by_cases e : j = m
      · subst e
        rw [mm_us] at hk
        rw [(hZ' k (by omega)).1, mm_us]
        omega
      · rw [mm_un e] at hk
        have hj6 := (hG.1 j hj).2.2
        have hjo : j = o := by omega
        subst hjo
        rw [mm_un e, (hA k (by omega)).1]
        exact hG.2.2 j k hj hk
  · rintro k i ⟨b2, b3⟩ hi ⟨hlow, X', A', hB, hA, hZ⟩ hw
    show wX_size_43 post (nI m) (nI (N m)) c f (k + 1) (nI i) (upd a1 m (nI n)) b2 b3 a4 a5 a6 a7 a8
    refine pk_le (12 * m + 12) i (fun z => absurd z (by omega)) (fun _ => ⟨vp_in_nI (by omega) (by decide), ?_⟩) (by rw [mm_l12]; exact nI_add (12 * m) 12)
    rw [nI_clamp (show i < 2 ^ 31 by omega)]
    refine nm_e ⟨vp_in_nI (by omega) (by decide), nm_e (nm_r (nI_1 i) (hw (upd b2 i 0, upd b3 i 0) ⟨by omega, mm_up X' i 0, mm_up A' i 0, mm_B_up hB (by decide) (by decide), ?_, fun k hk => ?_⟩))⟩
    · have := mm_ag_up (k := i - 12 * m) (v := 0) (w := 0) ho (by omega) hA
      rw [show 12 * m + (i - 12 * m) = i by omega] at this
      exact this
    · by_cases e : 12 * m + k = i
      · rw [e, mm_us, mm_us]
        exact ⟨rfl, rfl⟩
      · rw [mm_un e, mm_un e]
        exact hZ k (by omega)
theorem mm_size_no {post : Int32 → St1 → Prop} {c f : Int32} {a1 a2 a3 a4 a5 a6 a7 a8 : Nat → Int32} {m : Nat} {x : Int32} (hm : m < 2) (hx : ¬ (¬ x < 1 ∧ x ≤ 6)) (H : post (-2) (c, f, a1, a2, a3, a4, a5, a6, a7, a8)) : wpX_size post (c, f, a1, a2, a3, a4, a5, a6, a7, a8) (nI m) x := by
  unfold wpX_size
  dsimp only
  refine mm_isM hm (br_f (by decide) ?_)
  by_cases h : x < 1
  · exact br_t h H
  · exact br_f h (br_f (fun g => hx ⟨h, g⟩) H)
theorem mm_set {post : Int32 → St1 → Prop} {N X A : Nat → Nat} {c f : Int32} {a1 a2 a3 a4 a5 a6 a7 a8 : Nat → Int32} {m t v : Nat} (hS : mm_S N X A (c, f, a1, a2, a3, a4, a5, a6, a7, a8)) (hm : m < 2) (ht : t < 2 ^ 31) (hv : v < 2 ^ 31) (H2 : ¬ t / 2 < N m → post (-2) (c, f, a1, a2, a3, a4, a5, a6, a7, a8)) (H4 : t / 2 < N m → ¬ v / 4 < N m → post (-4) (c, f, a1, a2, a3, a4, a5, a6, a7, a8)) (H : t / 2 < N m → v / 4 < N m → ∀ f a2 a3, mm_S N (mm_up X (12 * m + t) (v / 4)) (mm_up A (12 * m + t) (v % 4)) (c, f, a1, a2, a3, a4, a5, a6, a7, a8) → post (nI (4 * X (12 * m + t) + A (12 * m + t))) (c, f, a1, a2, a3, a4, a5, a6, a7, a8)) : wpX_set post (c, f, a1, a2, a3, a4, a5, a6, a7, a8) (nI m) (nI t) (nI v) := by
  have hG : mm_G N X A a1 a2 a3 := hS.1
  have hn := (hG.1 m hm).2
  unfold wpX_set
  dsimp only
  have e1 : nI t >>> ((1 : Int32) &&& 31) = nI (t / 2) := pk_shrN ht _ 1 (by decide)
  have e2 : nI v >>> ((2 : Int32) &&& 31) = nI (v / 4) := pk_shrN hv _ 2 (by decide)
  have e3 : nI v &&& 3 = nI (v % 4) := pk_andN (by omega) 2 (by decide)
  rw [e1, e2, e3, nI_clamp (show m < 2 ^ 31 by omega), (hG.1 m hm).1]
  refine mm_isM hm (br_f (by decide) (br_f (nI_pos ht) ⟨vp_in_nI hm (by decide), pk_lt (t / 2) (N m) (fun g1 => br_f (nI_pos hv) ⟨vp_in_nI hm (by decide), pk_lt (v / 4) (N m) (fun g2 => nm_r (mm_i12 m t) ?_) (fun g => H4 g1 (by omega))⟩) (fun g => H2 (by omega))⟩))
  have hk : 12 * m + t < 24 := by omega
  have hB := hG.2.1 (12 * m + t) hk
  rw [nI_clamp (show 12 * m + t < 2 ^ 31 by omega), hB.1, hB.2.1, mm_l4, nI_add]
  refine ⟨vp_in_nI hk (by decide), vp_in_nI hk (by decide), nm_e ⟨vp_in_nI hk (by decide), nm_e ⟨vp_in_nI hk (by decide), nm_e (H g1 g2 _ _ _ ⟨⟨hG.1, mm_B_up hG.2.1 (by omega) (by omega), fun j k hj hk => ?_⟩, fun z => absurd rfl z⟩)⟩⟩⟩
  by_cases e : 12 * j + k = 12 * m + t
  · have hj6 := (hG.1 j hj).2.2
    have hjm : j = m := by omega
    rw [e, mm_us, hjm]
    exact g2
  · rw [mm_un e]
    exact hG.2.2 j k hj hk
theorem mm_weave {post : Int32 → St1 → Prop} {N X A : Nat → Nat} {c f : Int32} {a1 a2 a3 a4 a5 a6 a7 a8 : Nat → Int32} {m o d x : Nat} (hS : mm_S N X A (c, f, a1, a2, a3, a4, a5, a6, a7, a8)) (hm : m < 2) (ho : o + m = 1) (hd : d ≤ 20) (hx : x ≤ 63) (H : ∀ X' A' c f a1 a2 a3 a4 a5 a6 a7 a8, mm_S N X' A' (c, f, a1, a2, a3, a4, a5, a6, a7, a8) → mm_ag o X A X' A' → (∀ k, k < 2 * N m → X' (12 * m + k) = (k / 2 * (x / 8) + k % 2 + d) % N m ∧ A' (12 * m + k) = (k / 2 * (k / 2) + k % 2 * (x % 8) + d) % 4) → post 0 (c, f, a1, a2, a3, a4, a5, a6, a7, a8)) : wpX_weave post (c, f, a1, a2, a3, a4, a5, a6, a7, a8) (nI m) (nI d) (nI x) := by
  have hG : mm_G N X A a1 a2 a3 := hS.1
  have hn := (hG.1 m hm).2
  unfold wpX_weave
  dsimp only
  refine mm_isM hm (br_f (by decide) (br_f (nI_pos (by omega)) (pk_le d 20 (fun _ => br_f (nI_pos (by omega)) (pk_le x 63 (fun _ => ⟨vp_in_nI hm (by decide), ?_⟩) (fun z => absurd z (by omega)))) (fun z => absurd z (by omega)))))
  rw [nI_clamp (show m < 2 ^ 31 by omega), (hG.1 m hm).1]
  refine nm_e ?_
  refine pk_loop (fun k i (s : (Nat → Int32) × (Nat → Int32)) => wX_weave_46 post (nI m) (nI d) (nI x) (nI (N m)) c f k (nI i) a1 s.1 s.2 a4 a5 a6 a7 a8) (fun i s => ∃ X' A', mm_B X' A' s.1 s.2 ∧ mm_ag o X A X' A' ∧ (∀ k, k < i → X' (12 * m + k) = (k / 2 * (x / 8) + k % 2 + d) % N m ∧ A' (12 * m + k) = (k / 2 * (k / 2) + k % 2 * (x % 8) + d) % 4)) (2 * N m) 0 (a2, a3) (by omega) ⟨X, A, hG.2.1, mm_ag_refl, fun k hk => absurd hk (by omega)⟩ ?_ ?_
  · rintro k ⟨b2, b3⟩ ⟨X', A', hB, hA, hZ⟩
    show wX_weave_46 post (nI m) (nI d) (nI x) (nI (N m)) c f (k + 1) (nI (2 * N m)) a1 b2 b3 a4 a5 a6 a7 a8
    refine pk_le (2 * N m) (2 * N m) (fun _ => ?_) (fun z => absurd z (by omega)) (mm_l2 _)
    refine H X' A' _ _ _ _ _ _ _ _ _ _ ⟨⟨hG.1, hB, fun j k hj hk => ?_⟩, fun z => absurd rfl z⟩ hA hZ
    by_cases e : j = m
    · subst e
      rw [(hZ k hk).1]
      exact Nat.mod_lt _ (by omega)
    · have hj6 := (hG.1 j hj).2.2
      have hjo : j = o := by omega
      subst hjo
      rw [(hA k (by omega)).1]
      exact hG.2.2 j k hj hk
  · rintro k i ⟨b2, b3⟩ hi ⟨X', A', hB, hA, hZ⟩ hw
    show wX_weave_46 post (nI m) (nI d) (nI x) (nI (N m)) c f (k + 1) (nI i) a1 b2 b3 a4 a5 a6 a7 a8
    have e1 : nI i >>> ((1 : Int32) &&& 31) = nI (i / 2) := pk_shrN (by omega) _ 1 (by decide)
    have e2 : nI i &&& 1 = nI (i % 2) := pk_andN (by omega) 1 (by decide)
    have e3 : nI x >>> ((3 : Int32) &&& 31) = nI (x / 8) := pk_shrN (by omega) _ 3 (by decide)
    have e4 : nI x &&& 7 = nI (x % 8) := pk_andN (by omega) 3 (by decide)
    have b1 : i / 2 * (x / 8) ≤ 5 * 7 := Nat.mul_le_mul (by omega) (by omega)
    have b4 : i / 2 * (i / 2) ≤ 5 * 5 := Nat.mul_le_mul (by omega) (by omega)
    have b5 : i % 2 * (x % 8) ≤ 1 * 7 := Nat.mul_le_mul (by omega) (by omega)
    have hmod : (i / 2 * (x / 8) + i % 2 + d) % N m < N m := Nat.mod_lt _ (by omega)
    refine pk_le (2 * N m) i (fun z => absurd z (by omega)) (fun _ => nm_r e1 (nm_r e2 (br_f (nI_nle (by omega) (by omega)) ?_))) (mm_l2 _)
    unfold wX_weave_100
    rw [e3, e4, pk_mul, pk_mul, pk_mul, nI_add, nI_add, nI_add, nI_add, mm_i12, nI_clamp (show 12 * m + i < 2 ^ 31 by omega), pk_rem (by omega) (by omega) (by omega)]
    have e5 : nI (i / 2 * (i / 2) + i % 2 * (x % 8) + d) &&& 3 = nI ((i / 2 * (i / 2) + i % 2 * (x % 8) + d) % 4) := pk_andN (by omega) 2 (by decide)
    rw [e5]
    refine ⟨nI_ne0 (by omega) (by omega), vp_in_nI (by omega) (by decide), nm_e ⟨vp_in_nI (by omega) (by decide), nm_e (nm_r (nI_1 i) (hw (_, _) ⟨_, _, mm_B_up hB (by omega) (Nat.mod_lt _ (by decide)), mm_ag_up ho (by omega) hA, fun k hk => ?_⟩))⟩⟩
    by_cases e : k = i
    · rw [e, mm_us, mm_us]
      exact ⟨rfl, rfl⟩
    · rw [mm_un (by omega), mm_un (by omega)]
      exact hZ k (by omega)
theorem mm_weave_no {post : Int32 → St1 → Prop} {c f : Int32} {a1 a2 a3 a4 a5 a6 a7 a8 : Nat → Int32} {m : Nat} {x y : Int32} (hm : m < 2) (h2 : ¬ (¬ x < 0 ∧ x ≤ 20) → post (-2) (c, f, a1, a2, a3, a4, a5, a6, a7, a8)) (h3 : (¬ x < 0 ∧ x ≤ 20) → post (-3) (c, f, a1, a2, a3, a4, a5, a6, a7, a8)) (hn : ¬ ((¬ x < 0 ∧ x ≤ 20) ∧ (¬ y < 0 ∧ y ≤ 63))) : wpX_weave post (c, f, a1, a2, a3, a4, a5, a6, a7, a8) (nI m) x y := by
  unfold wpX_weave
  dsimp only
  refine mm_isM hm (br_f (by decide) ?_)
  by_cases g1 : x < 0
  · exact br_t g1 (h2 (fun g => g.1 g1))
  · by_cases g2 : x ≤ 20
    · by_cases g3 : y < 0
      · exact br_f g1 (br_t g2 (br_t g3 (h3 ⟨g1, g2⟩)))
      · exact br_f g1 (br_t g2 (br_f g3 (br_f (fun g4 => hn ⟨⟨g1, g2⟩, g3, g4⟩) (h3 ⟨g1, g2⟩))))
    · exact br_f g1 (br_f g2 (h2 (fun g => g2 g.2)))
theorem mm_copy {post : Int32 → St1 → Prop} {N X A : Nat → Nat} {c f : Int32} {a1 a2 a3 a4 a5 a6 a7 a8 : Nat → Int32} {m o b : Nat} (hS : mm_S N X A (c, f, a1, a2, a3, a4, a5, a6, a7, a8)) (hm : m < 2) (ho : o + m = 1) (hb : b < 6) (H : ∀ X' A' c f a1 a2 a3 a4 a5 a6 a7 a8, mm_S (mm_up N m (N o)) X' A' (c, f, a1, a2, a3, a4, a5, a6, a7, a8) → mm_ag o X A X' A' → (∀ s l, s < N o → l < 2 → X' (12 * m + 2 * ((s + b) % N o) + l) = (X (12 * o + 2 * s + l) + b) % N o ∧ A' (12 * m + 2 * ((s + b) % N o) + l) = A (12 * o + 2 * s + l)) → post (nI (N o)) (c, f, a1, a2, a3, a4, a5, a6, a7, a8)) : wpX_copy post (c, f, a1, a2, a3, a4, a5, a6, a7, a8) (nI m) (nI b) := by
  have hG : mm_G N X A a1 a2 a3 := hS.1
  have ho2 : o < 2 := by omega
  have hn := (hG.1 o ho2).2
  have eo : (1 : Int32) - nI m = nI o := by
    have := pk_sub (a := 1) (b := m) (by omega)
    rw [show 1 - m = o by omega] at this
    exact this
  unfold wpX_copy
  dsimp only
  refine mm_isM hm (br_f (by decide) (br_f (nI_pos (by omega)) (pk_le b 5 (fun _ => nm_r eo ⟨vp_in_nI ho2 (by decide), ?_⟩) (fun z => absurd z (by omega)))))
  rw [nI_clamp (show o < 2 ^ 31 by omega), (hG.1 o ho2).1]
  refine br_f (nI_nle (by omega) (by omega)) ⟨vp_in_nI ho2 (by decide), ?_⟩
  unfold wX_copy_44
  rw [nI_clamp (show m < 2 ^ 31 by omega)]
  refine ⟨vp_in_nI hm (by decide), nm_e ?_⟩
  refine pk_loop (fun k i (s : (Nat → Int32) × (Nat → Int32)) => wX_copy_57 post (nI m) (nI b) (nI o) (nI (N o)) c f k (nI i) (upd a1 m (nI (N o))) s.1 s.2 a4 a5 a6 a7 a8) (fun i s => ∃ X' A', mm_B X' A' s.1 s.2 ∧ mm_ag o X A X' A' ∧ (∀ k, k < i → X' (12 * m + (2 * ((k / 2 + b) % N o) + k % 2)) = (X (12 * o + k) + b) % N o ∧ A' (12 * m + (2 * ((k / 2 + b) % N o) + k % 2)) = A (12 * o + k))) (2 * N o) 0 (a2, a3) (by omega) ⟨X, A, hG.2.1, mm_ag_refl, fun k hk => absurd hk (by omega)⟩ ?_ ?_
  · rintro k ⟨b2, b3⟩ ⟨X', A', hB, hA, hZ⟩
    show wX_copy_57 post (nI m) (nI b) (nI o) (nI (N o)) c f (k + 1) (nI (2 * N o)) (upd a1 m (nI (N o))) b2 b3 a4 a5 a6 a7 a8
    refine pk_le (2 * N o) (2 * N o) (fun _ => ?_) (fun z => absurd z (by omega)) (mm_l2 _)
    have hZ' : ∀ s l, s < N o → l < 2 → X' (12 * m + 2 * ((s + b) % N o) + l) = (X (12 * o + 2 * s + l) + b) % N o ∧ A' (12 * m + 2 * ((s + b) % N o) + l) = A (12 * o + 2 * s + l) := by
      intro s l hs hl
      have := hZ (2 * s + l) (by omega)
      rw [show (2 * s + l) / 2 = s by omega, show (2 * s + l) % 2 = l by omega, ← Nat.add_assoc, ← Nat.add_assoc] at this
      exact this
    refine H X' A' _ _ _ _ _ _ _ _ _ _ ⟨⟨fun j hj => ?_, hB, fun j k hj hk => ?_⟩, fun z => absurd rfl z⟩ hA hZ'
    · show upd a1 m (nI (N o)) j = nI (mm_up N m (N o) j) ∧ 1 ≤ mm_up N m (N o) j ∧ mm_up N m (N o) j ≤ 6
      by_cases e : j = m
      · rw [e, pk_us, mm_us]
        exact ⟨rfl, hn⟩
      · rw [pk_un e, mm_un e]
        exact hG.1 j hj
    · by_cases e : j = m
      · subst e
        rw [mm_us] at hk
        rw [mm_us]
        have hi := mm_rot_inv (N o) (by omega) b hb (k / 2) (by omega)
        have hlt : (k / 2 + (N o - b % N o)) % N o < N o := Nat.mod_lt _ (by omega)
        have := (hZ' _ (k % 2) hlt (by omega)).1
        rw [hi, show 12 * j + 2 * (k / 2) + k % 2 = 12 * j + k by omega] at this
        rw [this]
        exact Nat.mod_lt _ (by omega)
      · rw [mm_un e] at hk
        have hj6 := (hG.1 j hj).2.2
        have hjo : j = o := by omega
        subst hjo
        rw [mm_un e, (hA k (by omega)).1]
        exact hG.2.2 j k hj hk
  · rintro k i ⟨b2, b3⟩ hi ⟨X', A', hB, hA, hZ⟩ hw
    have hB : mm_B X' A' b2 b3 := hB
    show wX_copy_57 post (nI m) (nI b) (nI o) (nI (N o)) c f (k + 1) (nI i) (upd a1 m (nI (N o))) b2 b3 a4 a5 a6 a7 a8
    have e1 : nI i >>> ((1 : Int32) &&& 31) = nI (i / 2) := pk_shrN (by omega) _ 1 (by decide)
    have e2 : nI i &&& 1 = nI (i % 2) := pk_andN (by omega) 1 (by decide)
    have r1 : (i / 2 + b) % N o < N o := Nat.mod_lt _ (by omega)
    have hk24 : 12 * o + i < 24 := by omega
    have hBo := hB (12 * o + i) hk24
    have hAo := hA i (by omega)
    have r2 : (X (12 * o + i) + b) % N o < N o := Nat.mod_lt _ (by omega)
    have hdst : 12 * m + (2 * ((i / 2 + b) % N o) + i % 2) < 24 := by omega
    have e3 : nI (i / 2) + nI b - (nI (i / 2) + nI b) / nI (N o) * nI (N o) = nI ((i / 2 + b) % N o) := by
      rw [nI_add]
      exact pk_rem (by omega) (by omega) (by omega)
    have e4 : (12 : Int32) * nI m + 2 * nI ((i / 2 + b) % N o) + nI (i % 2) = nI (12 * m + (2 * ((i / 2 + b) % N o) + i % 2)) := by
      rw [mm_l12, mm_l2, nI_add, nI_add, Nat.add_assoc]
    have e5 : nI (X (12 * o + i)) + nI b - (nI (X (12 * o + i)) + nI b) / nI (N o) * nI (N o) = nI ((X (12 * o + i) + b) % N o) := by
      have := hBo.2.2.1
      rw [hAo.1] at this
      rw [nI_add]
      exact pk_rem (by omega) (by omega) (by omega)
    have z4 : ¬ nI (N o) = 0 := nI_ne0 (by omega) (by omega)
    refine pk_le (2 * N o) i (fun z => absurd z (by omega)) (fun _ => ⟨z4, nm_r (by rw [e1, e3]) (nm_r (by rw [e2, e4]) ?_)⟩) (mm_l2 _)
    rw [mm_i12 o i, nI_clamp (show 12 * o + i < 2 ^ 31 by omega), nI_clamp (show 12 * m + (2 * ((i / 2 + b) % N o) + i % 2) < 2 ^ 31 by omega), hBo.1, hBo.2.1, hAo.1, hAo.2, e5]
    have hA4 := hBo.2.2.2
    rw [hAo.2] at hA4
    refine ⟨vp_in_nI hk24 (by decide), z4, vp_in_nI hdst (by decide), nm_e ⟨vp_in_nI hk24 (by decide), vp_in_nI hdst (by decide), nm_e (nm_r (nI_1 i) (hw (_, _) ⟨_, _, mm_B_up hB (by omega) hA4, mm_ag_up ho (by omega) hA, fun k hk => ?_⟩))⟩⟩
    by_cases e : k = i
    · rw [e, mm_us, mm_us]
      exact ⟨rfl, rfl⟩
    · have r3 : (k / 2 + b) % N o < N o := Nat.mod_lt _ (by omega)
      have hne : 12 * m + (2 * ((k / 2 + b) % N o) + k % 2) ≠ 12 * m + (2 * ((i / 2 + b) % N o) + i % 2) := by
        intro g
        have g1 : (k / 2 + b) % N o = (i / 2 + b) % N o := by omega
        have g2 := mm_rot_inj (N o) (by omega) b hb (k / 2) (by omega) (i / 2) (by omega) g1
        omega
      rw [mm_un hne, mm_un hne]
      exact hZ k (by omega)
theorem mm_copy_no {post : Int32 → St1 → Prop} {c f : Int32} {a1 a2 a3 a4 a5 a6 a7 a8 : Nat → Int32} {m : Nat} {x : Int32} (hm : m < 2) (hn : ¬ (¬ x < 0 ∧ x ≤ 5)) (H : post (-2) (c, f, a1, a2, a3, a4, a5, a6, a7, a8)) : wpX_copy post (c, f, a1, a2, a3, a4, a5, a6, a7, a8) (nI m) x := by
  unfold wpX_copy
  dsimp only
  refine mm_isM hm (br_f (by decide) ?_)
  by_cases g1 : x < 0
  · exact br_t g1 H
  · exact br_f g1 (br_f (fun g => hn ⟨g1, g⟩) H)
end
section
/-! any call of the script keeps the picture -/
def mm_P (u : St1) : Prop := ∃ N X A, mm_S N X A u
theorem mm_mach (p : Int32) : (∃ m, m < 2 ∧ p = nI m) ∨ (¬ p = 0 ∧ ¬ p = 1) := by
  by_cases h0 : p = 0
  · exact .inl ⟨0, by decide, h0⟩
  · by_cases h1 : p = 1
    · exact .inl ⟨1, by decide, h1⟩
    · exact .inr ⟨h0, h1⟩
theorem mm_size_any {post : Int32 → St1 → Prop} {c f : Int32} {a1 a2 a3 a4 a5 a6 a7 a8 : Nat → Int32} {x y : Int32} (hP : mm_P (c, f, a1, a2, a3, a4, a5, a6, a7, a8)) (H : ∀ r c f a1 a2 a3 a4 a5 a6 a7 a8, mm_P (c, f, a1, a2, a3, a4, a5, a6, a7, a8) → post r (c, f, a1, a2, a3, a4, a5, a6, a7, a8)) : wpX_size post (c, f, a1, a2, a3, a4, a5, a6, a7, a8) x y := by
  obtain ⟨N, X, A, hS⟩ := hP
  rcases mm_mach x with ⟨m, hm, rfl⟩ | ⟨h0, h1⟩
  · by_cases g : ¬ y < 1 ∧ y ≤ 6
    · have hy0 : ¬ y < 0 := fun z => g.1 (by
        rw [Int32.lt_iff_toInt_lt] at z ⊢
        exact Int.lt_trans z (by decide))
      obtain ⟨n, hn, rfl⟩ := nI_of2 (n := 6) (M := 6) (by decide) hy0 g.2
      have h1 : 1 ≤ n := by
        rcases Nat.lt_or_ge n 1 with z | z
        · have : n = 0 := by omega
          subst this
          exact absurd (by decide) g.1
        · exact z
      exact mm_size (o := 1 - m) hS hm (by omega) h1 hn (fun X' A' c f a1 a2 a3 a4 a5 a6 a7 a8 hS' _ _ => H _ _ _ _ _ _ _ _ _ _ _ ⟨_, _, _, hS'⟩)
    · exact mm_size_no hm g (H _ _ _ _ _ _ _ _ _ _ _ ⟨_, _, _, hS⟩)
  · unfold wpX_size
    dsimp only
    exact mm_notM h0 h1 (br_t rfl (H _ _ _ _ _ _ _ _ _ _ _ ⟨_, _, _, hS⟩))
theorem mm_set_any {post : Int32 → St1 → Prop} {c f : Int32} {a1 a2 a3 a4 a5 a6 a7 a8 : Nat → Int32} {x y z : Int32} (hP : mm_P (c, f, a1, a2, a3, a4, a5, a6, a7, a8)) (H : ∀ r c f a1 a2 a3 a4 a5 a6 a7 a8, mm_P (c, f, a1, a2, a3, a4, a5, a6, a7, a8) → post r (c, f, a1, a2, a3, a4, a5, a6, a7, a8)) : wpX_set post (c, f, a1, a2, a3, a4, a5, a6, a7, a8) x y z := by
  have hP' := hP
  obtain ⟨N, X, A, hS⟩ := hP
  rcases mm_mach x with ⟨m, hm, rfl⟩ | ⟨h0, h1⟩
  · by_cases g1 : y < 0
    · unfold wpX_set
      dsimp only
      exact mm_isM hm (br_f (by decide) (br_t g1 (H _ _ _ _ _ _ _ _ _ _ _ hP')))
    · by_cases g2 : z < 0
      · unfold wpX_set
        dsimp only
        exact mm_isM hm (br_f (by decide) (br_f g1 ⟨vp_in_nI hm (by decide), br_c (fun _ => br_t g2 (H _ _ _ _ _ _ _ _ _ _ _ hP')) (fun _ => H _ _ _ _ _ _ _ _ _ _ _ hP')⟩))
      · obtain ⟨t, ht, rfl⟩ := nI_of g1
        obtain ⟨v, hv, rfl⟩ := nI_of g2
        exact mm_set hS hm ht hv (fun _ => H _ _ _ _ _ _ _ _ _ _ _ hP') (fun _ _ => H _ _ _ _ _ _ _ _ _ _ _ hP') (fun _ _ f a2 a3 hS' => H _ _ _ _ _ _ _ _ _ _ _ ⟨_, _, _, hS'⟩)
  · unfold wpX_set
    dsimp only
    exact mm_notM h0 h1 (br_t rfl (H _ _ _ _ _ _ _ _ _ _ _ hP'))
theorem mm_weave_any {post : Int32 → St1 → Prop} {c f : Int32} {a1 a2 a3 a4 a5 a6 a7 a8 : Nat → Int32} {x y z : Int32} (hP : mm_P (c, f, a1, a2, a3, a4, a5, a6, a7, a8)) (H : ∀ r c f a1 a2 a3 a4 a5 a6 a7 a8, mm_P (c, f, a1, a2, a3, a4, a5, a6, a7, a8) → post r (c, f, a1, a2, a3, a4, a5, a6, a7, a8)) : wpX_weave post (c, f, a1, a2, a3, a4, a5, a6, a7, a8) x y z := by
  have hP' := hP
  obtain ⟨N, X, A, hS⟩ := hP
  rcases mm_mach x with ⟨m, hm, rfl⟩ | ⟨h0, h1⟩
  · by_cases g : (¬ y < 0 ∧ y ≤ 20) ∧ (¬ z < 0 ∧ z ≤ 63)
    · obtain ⟨d, hd, rfl⟩ := nI_of2 (n := 20) (M := 20) (by decide) g.1.1 g.1.2
      obtain ⟨v, hv, rfl⟩ := nI_of2 (n := 63) (M := 63) (by decide) g.2.1 g.2.2
      exact mm_weave (o := 1 - m) hS hm (by omega) hd hv (fun X' A' c f a1 a2 a3 a4 a5 a6 a7 a8 hS' _ _ => H _ _ _ _ _ _ _ _ _ _ _ ⟨_, _, _, hS'⟩)
    · exact mm_weave_no hm (fun _ => H _ _ _ _ _ _ _ _ _ _ _ hP') (fun _ => H _ _ _ _ _ _ _ _ _ _ _ hP') g
  · unfold wpX_weave
    dsimp only
    exact mm_notM h0 h1 (br_t rfl (H _ _ _ _ _ _ _ _ _ _ _ hP'))
theorem mm_copy_any {post : Int32 → St1 → Prop} {c f : Int32} {a1 a2 a3 a4 a5 a6 a7 a8 : Nat → Int32} {x y : Int32} (hP : mm_P (c, f, a1, a2, a3, a4, a5, a6, a7, a8)) (H : ∀ r c f a1 a2 a3 a4 a5 a6 a7 a8, mm_P (c, f, a1, a2, a3, a4, a5, a6, a7, a8) → post r (c, f, a1, a2, a3, a4, a5, a6, a7, a8)) : wpX_copy post (c, f, a1, a2, a3, a4, a5, a6, a7, a8) x y := by
  have hP' := hP
  obtain ⟨N, X, A, hS⟩ := hP
  rcases mm_mach x with ⟨m, hm, rfl⟩ | ⟨h0, h1⟩
  · by_cases g : ¬ y < 0 ∧ y ≤ 5
    · obtain ⟨b, hb, rfl⟩ := nI_of2 (n := 5) (M := 5) (by decide) g.1 g.2
      exact mm_copy (o := 1 - m) hS hm (by omega) (by omega) (fun X' A' c f a1 a2 a3 a4 a5 a6 a7 a8 hS' _ _ => H _ _ _ _ _ _ _ _ _ _ _ ⟨_, _, _, hS'⟩)
    · exact mm_copy_no hm g (H _ _ _ _ _ _ _ _ _ _ _ hP')
  · unfold wpX_copy
    dsimp only
    exact mm_notM h0 h1 (br_t rfl (H _ _ _ _ _ _ _ _ _ _ _ hP'))
theorem mm_call {post : St1 → Prop} {c f : Int32} {a1 a2 a3 a4 a5 a6 a7 a8 : Nat → Int32} {p1 p2 p3 p4 : Int32} (hP : mm_P (c, f, a1, a2, a3, a4, a5, a6, a7, a8)) (H : ∀ c f a1 a2 a3 a4 a5 a6 a7 a8, mm_P (c, f, a1, a2, a3, a4, a5, a6, a7, a8) → post (c, f, a1, a2, a3, a4, a5, a6, a7, a8)) : wpL_call post (c, f, a1, a2, a3, a4, a5, a6, a7, a8) p1 p2 p3 p4 := by
  unfold wpL_call
  dsimp only
  refine br_c (fun _ => br_c (fun _ => br_c (fun _ => ?_) (fun _ => br_c (fun _ => ?_) (fun _ => br_c (fun _ => ?_) (fun _ => ?_)))) (fun _ => ?_)) (fun _ => ?_)
  · exact mm_weave_any hP (fun r c f a1 a2 a3 a4 a5 a6 a7 a8 h => H c f a1 a2 a3 a4 a5 a6 a7 a8 h)
  · exact mm_copy_any hP (fun r c f a1 a2 a3 a4 a5 a6 a7 a8 h => H c f a1 a2 a3 a4 a5 a6 a7 a8 h)
  · exact mm_size_any hP (fun r c f a1 a2 a3 a4 a5 a6 a7 a8 h => H c f a1 a2 a3 a4 a5 a6 a7 a8 h)
  · exact mm_set_any hP (fun r c f a1 a2 a3 a4 a5 a6 a7 a8 h => H c f a1 a2 a3 a4 a5 a6 a7 a8 h)
  · exact mm_set_any hP (fun r c f a1 a2 a3 a4 a5 a6 a7 a8 h => H c f a1 a2 a3 a4 a5 a6 a7 a8 h)
  · exact mm_size_any hP (fun r c f a1 a2 a3 a4 a5 a6 a7 a8 h => H c f a1 a2 a3 a4 a5 a6 a7 a8 h)
end
section
/-! alike, same, difference -/
theorem mm_alikeX {post : Int32 → St1 → Prop} {N X A : Nat → Nat} {c f : Int32} {a1 a2 a3 a4 a5 a6 a7 a8 : Nat → Int32} {o m s t : Nat} {x y : Int32} (hS : mm_S N X A (c, f, a1, a2, a3, a4, a5, a6, a7, a8)) (ho : o < 2) (hm : m < 2) (hs : s < N o) (ht : t < N m) (hx : x = nI (8 * o + s)) (hy : y = nI (8 * m + t)) (he : mm_eq X A 11 (6 * o + s) (6 * m + t) = true) (H : ∀ c f a1 a2 a3 a4 a5 a6 a7 a8, mm_S N X A (c, f, a1, a2, a3, a4, a5, a6, a7, a8) → post 1 (c, f, a1, a2, a3, a4, a5, a6, a7, a8)) : wpX_alike post (c, f, a1, a2, a3, a4, a5, a6, a7, a8) x y := by
  have hG : mm_G N X A a1 a2 a3 := hS.1
  have hno := (hG.1 o ho).2
  have hnm := (hG.1 m hm).2
  unfold wpX_alike
  dsimp only
  refine mm_place hG ho hs hx (mm_place hG hm ht hy (br_f (nI_pos (by omega)) (br_t (nI_pos' (by omega)) (mm_refresh hS (fun f' a4' hS' hT => ?_)))))
  obtain ⟨t', t1, t2⟩ := hT (6 * o + s) (6 * m + t) (mm_lv6 hG ho hs) (mm_lv6 hG hm ht)
  have t0 := (mm_D0 t2).mpr he
  subst t0
  dsimp only
  rw [mm_i12, nI_clamp (by omega), t1]
  exact ⟨vp_in_nI (by omega) (by decide), br_t rfl (H _ _ _ _ _ _ _ _ _ _ hS')⟩
theorem mm_sameX {post : Int32 → St1 → Prop} {N X A : Nat → Nat} {c f : Int32} {a1 a2 a3 a4 a5 a6 a7 a8 : Nat → Int32} (hS : mm_S N X A (c, f, a1, a2, a3, a4, a5, a6, a7, a8)) (he : mm_eq X A 11 0 6 = true) (H : ∀ c f a1 a2 a3 a4 a5 a6 a7 a8, mm_S N X A (c, f, a1, a2, a3, a4, a5, a6, a7, a8) → post 1 (c, f, a1, a2, a3, a4, a5, a6, a7, a8)) : wpX_same post (c, f, a1, a2, a3, a4, a5, a6, a7, a8) := by
  have hG : mm_G N X A a1 a2 a3 := hS.1
  have hn0 := (hG.1 0 (by decide)).2
  have hn1 := (hG.1 1 (by decide)).2
  unfold wpX_same
  dsimp only
  refine mm_refresh hS (fun f' a4' hS' hT => ?_)
  obtain ⟨t', t1, t2⟩ := hT 0 6 ⟨by decide, by show 0 < N 0; omega⟩ ⟨by decide, by show 0 < N 1; omega⟩
  have t0 := (mm_D0 t2).mpr he
  subst t0
  exact br_t t1 (H _ _ _ _ _ _ _ _ _ _ hS')
theorem mm_nI4 {a b : Nat} (h : nI a = nI b) : a % 4 = b % 4 := by
  have h2 : a % 2 ^ 32 = b % 2 ^ 32 := congrArg (fun x : Int32 => x.toBitVec.toNat) h
  omega
theorem mm_fw {post : Int32 → Prop} {N X A : Nat → Nat} {c f : Int32} {a1 a2 a3 a4 a5 a6 a7 a8 : Nat → Int32} (hG : mm_G N X A a1 a2 a3) (hT : mm_TL N X A 11 a4) : ∀ k a b d, mm_lv N a → mm_lv N b → mm_eq X A k a b = true → ¬ mm_eq X A (k + 1) a b = true → k ≤ 10 → (∀ w, d * 2 ^ (k + 1) ≤ w → w < (d + 1) * 2 ^ (k + 1) → (∀ r r', mm_rs X A w (k + 1) a r % 4 ≠ mm_rs X A w (k + 1) b r' % 4) → post (nI w)) → wX_firstWord_28 post c f a1 a2 a3 a4 a5 a6 a7 a8 (k + 1) (nI a) (nI b) (nI (k + 1)) (nI d) := by
  intro k
  induction k with
  | zero =>
    intro a b d la lb h1 h2 hk H
    have la1 := la.1
    have lb1 := lb.1
    have ga0 := hG.2.1 (2 * a) (by omega)
    have gb0 := hG.2.1 (2 * b) (by omega)
    have ga1 := (hG.2.1 (2 * a + 1) (by omega)).2.2.2
    have gb1 := (hG.2.1 (2 * b + 1) (by omega)).2.2.2
    have ha4 := ga0.2.2.2
    have hb4 := gb0.2.2.2
    refine pk_le (0 + 1) 1 (fun _ => ?_) (fun z => absurd z (by omega))
    rw [mm_l2, mm_l2, mm_l2, nI_clamp (by omega), nI_clamp (by omega), ga0.2.1, gb0.2.1]
    refine ⟨vp_in_nI (by omega) (by decide), vp_in_nI (by omega) (by decide), pk_eq (A (2 * a)) (A (2 * b)) (fun e => ?_) (fun e => ?_)⟩
    · rw [nI_1]
      refine H (2 * d + 1) (by omega) (by omega) (fun r r' => ?_)
      have eb : (2 * d + 1) / 2 ^ 0 % 2 = 1 := by omega
      show (4 * r + A (2 * a + (2 * d + 1) / 2 ^ 0 % 2)) % 4 ≠ (4 * r' + A (2 * b + (2 * d + 1) / 2 ^ 0 % 2)) % 4
      rw [eb]
      intro g
      exact h2 (mm_eqS.mpr ⟨e, by omega, rfl, rfl⟩)
    · have e0 : nI (2 * d) + 0 = nI (2 * d + 0) := nI_add (2 * d) 0
      rw [e0]
      refine H (2 * d + 0) (by omega) (by omega) (fun r r' => ?_)
      have eb : (2 * d + 0) / 2 ^ 0 % 2 = 0 := by omega
      show (4 * r + A (2 * a + (2 * d + 0) / 2 ^ 0 % 2)) % 4 ≠ (4 * r' + A (2 * b + (2 * d + 0) / 2 ^ 0 % 2)) % 4
      rw [eb]
      intro g
      have g' : (4 * r + A (2 * a)) % 4 = (4 * r' + A (2 * b)) % 4 := g
      omega
  | succ k ih =>
    intro a b d la lb h1 h2 hk H
    have step : ∀ l, l < 2 → ¬ mm_eq X A (k + 1) (mm_nx X a l) (mm_nx X b l) = true → wX_firstWord_76 post (wX_firstWord_28 post c f a1 a2 a3 a4 a5 a6 a7 a8 (k + 1)) (nI a) (nI b) (nI (k + 1 + 1)) (nI d) (nI l) c f a1 a2 a3 a4 a5 a6 a7 a8 := by
      intro l hl hne
      unfold wX_firstWord_76
      refine mm_after hG la hl (mm_after hG lb hl (nm_r (mm_i2 d l) (nm_r (pk_m1 (k + 1)) ?_)))
      refine ih _ _ (2 * d + l) (mm_lvn hG la hl).1 (mm_lvn hG lb hl).1 (mm_down (by omega) hl h1) hne (by omega) (fun w w1 w2 w3 => ?_)
      have hw : w / 2 ^ (k + 1) = 2 * d + l := Nat.div_eq_of_lt_le w1 w2
      have hp : 2 ^ (k + 1 + 1) = 2 * 2 ^ (k + 1) := by rw [Nat.pow_succ, Nat.mul_comm]
      have q1 : (2 * d + l) * 2 ^ (k + 1) = 2 * (d * 2 ^ (k + 1)) + l * 2 ^ (k + 1) := by rw [Nat.add_mul, Nat.mul_assoc]
      have q2 : d * 2 ^ (k + 1 + 1) = 2 * (d * 2 ^ (k + 1)) := by rw [hp, Nat.mul_left_comm]
      have q3 : l * 2 ^ (k + 1) ≤ 1 * 2 ^ (k + 1) := Nat.mul_le_mul_right _ (by omega)
      rw [Nat.add_mul] at w2
      refine H w ?_ ?_ (fun r r' => ?_)
      · omega
      · rw [Nat.add_mul, q2, hp]
        omega
      · show mm_rs X A w (k + 1) (mm_nx X a (w / 2 ^ (k + 1) % 2)) (4 * r + A (2 * a + w / 2 ^ (k + 1) % 2)) % 4 ≠ mm_rs X A w (k + 1) (mm_nx X b (w / 2 ^ (k + 1) % 2)) (4 * r' + A (2 * b + w / 2 ^ (k + 1) % 2)) % 4
        rw [show w / 2 ^ (k + 1) % 2 = l by rw [hw]; omega]
        exact w3 _ _
    have la0 := (mm_lvn hG la (l := 0) (by decide)).1
    have lb0 := (mm_lvn hG lb (l := 0) (by decide)).1
    have la1 := la0.1
    have lb1 := lb0.1
    obtain ⟨t, t1, t2⟩ := hT _ _ la0 lb0
    have tl := mm_D_le t2
    have tc := mm_D_at t2 (L := k + 1) (by omega) (by omega) (mm_down (by omega) (by decide) h1)
    refine pk_le (k + 1 + 1) 1 (fun z => absurd z (by omega)) (fun _ => mm_after (l := 0) hG la (by decide) (mm_after (l := 0) hG lb (by decide) ?_))
    rw [mm_i12, nI_clamp (by omega), t1, nI_pred]
    refine ⟨vp_in_nI (by omega) (by decide), pk_eq t (k + 1) (fun e => step 0 (by decide) (tc.mp e)) (fun e => step 1 (by decide) ?_)⟩
    rcases (mm_go (by omega) h1).mp h2 with g | g
    · exact absurd (tc.mpr g) e
    · exact g
theorem mm_diff {post : Int32 → St1 → Prop} {N X A : Nat → Nat} {c f : Int32} {a1 a2 a3 a4 a5 a6 a7 a8 : Nat → Int32} (hS : mm_S N X A (c, f, a1, a2, a3, a4, a5, a6, a7, a8)) (H0 : mm_eq X A 11 0 6 = true → ∀ c f a1 a2 a3 a4 a5 a6 a7 a8, mm_S N X A (c, f, a1, a2, a3, a4, a5, a6, a7, a8) → post 0 (c, f, a1, a2, a3, a4, a5, a6, a7, a8)) (H1 : ¬ mm_eq X A 11 0 6 = true → ∀ w k, k ≤ 11 → 2 ^ k ≤ w → w < 2 ^ (k + 1) → mm_rs X A w k 0 0 % 4 ≠ mm_rs X A w k 6 0 % 4 → ∀ c f a1 a2 a3 a4 a5 a6 a7 a8, mm_S N X A (c, f, a1, a2, a3, a4, a5, a6, a7, a8) → post (nI w) (c, f, a1, a2, a3, a4, a5, a6, a7, a8)) : wpX_difference post (c, f, a1, a2, a3, a4, a5, a6, a7, a8) 0 8 := by
  have hG : mm_G N X A a1 a2 a3 := hS.1
  have hn0 := (hG.1 0 (by decide)).2
  have hn1 := (hG.1 1 (by decide)).2
  have l0 : mm_lv N 0 := ⟨by decide, by show 0 < N 0; omega⟩
  have l6 : mm_lv N 6 := ⟨by decide, by show 0 < N 1; omega⟩
  unfold wpX_difference
  dsimp only
  refine mm_place (m := 0) (s := 0) hG (by decide) (by omega) rfl (mm_place (m := 1) (s := 0) hG (by decide) (by omega) rfl (br_f (by decide) (br_t (by decide) (mm_refresh hS (fun f' a4' hS' hT => ?_)))))
  obtain ⟨t, t1, t2⟩ := hT 0 6 l0 l6
  have tl := mm_D_le t2
  show wpX_firstWord (fun r_32 => (post r_32 (c, f', a1, a2, a3, a4', a5, a6, a7, a8))) (c, f', a1, a2, a3, a4', a5, a6, a7, a8) (nI (6 * 0 + 0)) (nI (6 * 1 + 0))
  unfold wpX_firstWord
  dsimp only
  rw [mm_i12, nI_clamp (by decide)]
  refine ⟨vp_in_nI (by decide) (by decide), nm_r t1 (pk_eq t 0 (fun e => H0 ((mm_D0 t2).mp e) _ _ _ _ _ _ _ _ _ _ hS') (fun e => ?_))⟩
  rcases t2 with ⟨g, _⟩ | ⟨g1, g2, g3, g4⟩
  · exact absurd g e
  · obtain ⟨k, rfl⟩ : ∃ k, t = k + 1 := ⟨t - 1, by omega⟩
    refine ⟨k + 1, mm_fw hG hT k 0 6 1 l0 l6 g3 g4 (by omega) (fun w w1 w2 w3 => H1 (fun g => g4 (mm_le 11 g2 g)) w (k + 1) g2 (by omega) ?_ (w3 0 0) _ _ _ _ _ _ _ _ _ _ hS')⟩
    rw [Nat.pow_succ]
    omega
end
section
/-! what a turned copy keeps -/
def mm_ro (o m n b : Nat) (X A X' A' : Nat → Nat) : Prop := ∀ s l, s < n → l < 2 → X' (12 * m + 2 * ((s + b) % n) + l) = (X (12 * o + 2 * s + l) + b) % n ∧ A' (12 * m + 2 * ((s + b) % n) + l) = A (12 * o + 2 * s + l)
def mm_in (o n : Nat) (X : Nat → Nat) : Prop := ∀ s l, s < n → l < 2 → X (12 * o + 2 * s + l) < n
def mm_f (m n b p : Nat) : Nat := 6 * m + (p % 6 + b) % n
def mm_Po (o n p : Nat) : Prop := p / 6 = o ∧ p % 6 < n
theorem mm_in_ag {o n : Nat} {X A X' A' : Nat → Nat} (h6 : n ≤ 6) (h : mm_in o n X) (g : mm_ag o X A X' A') : mm_in o n X' := by
  intro s l hs hl
  rw [Nat.add_assoc, (g (2 * s + l) (by omega)).1, ← Nat.add_assoc]
  exact h s l hs hl
theorem mm_ro_ag {o m n b : Nat} {X A Y B X' A' : Nat → Nat} (h6 : n ≤ 6) (h : mm_ro o m n b X A X' A') (g : mm_ag o X A Y B) : mm_ro o m n b Y B X' A' := by
  intro s l hs hl
  have := g (2 * s + l) (by omega)
  rw [← Nat.add_assoc] at this
  rw [this.1, this.2]
  exact h s l hs hl
theorem mm_ag_symm {o : Nat} {X A X' A' : Nat → Nat} (h : mm_ag o X A X' A') : mm_ag o X' A' X A := fun k hk => ⟨(h k hk).1.symm, (h k hk).2.symm⟩
theorem mm_ag_ro {o n : Nat} {X A X' A' : Nat → Nat} (h6 : n ≤ 6) (hx : mm_in o n X) (g : mm_ag o X A X' A') : mm_ro o o n 0 X A X' A' := by
  intro s l hs hl
  have := g (2 * s + l) (by omega)
  rw [← Nat.add_assoc] at this
  rw [Nat.add_zero, Nat.mod_eq_of_lt hs, this.1, this.2, Nat.add_zero, Nat.mod_eq_of_lt (hx s l hs hl)]
  exact ⟨rfl, rfl⟩
theorem mm_turn {o m n b : Nat} {X A X' A' : Nat → Nat} (h1 : 1 ≤ n) (h6 : n ≤ 6) (hx : mm_in o n X) (hr : mm_ro o m n b X A X' A') : (∀ p l, mm_Po o n p → l < 2 → A' (2 * mm_f m n b p + l) = A (2 * p + l)) ∧ (∀ p l, mm_Po o n p → l < 2 → mm_nx X' (mm_f m n b p) l = mm_f m n b (mm_nx X p l)) ∧ (∀ p l, mm_Po o n p → l < 2 → mm_Po o n (mm_nx X p l)) := by
  have key : ∀ p l, mm_Po o n p → l < 2 → 2 * mm_f m n b p + l = 12 * m + 2 * ((p % 6 + b) % n) + l ∧ 2 * p + l = 12 * o + 2 * (p % 6) + l ∧ mm_f m n b p / 6 = m := by
    intro p l hp hl
    obtain ⟨p1, p2⟩ := hp
    have hm : (p % 6 + b) % n < n := Nat.mod_lt _ (by omega)
    unfold mm_f
    exact ⟨by omega, by omega, by omega⟩
  have nxt : ∀ p l, mm_Po o n p → l < 2 → mm_nx X p l / 6 = o ∧ mm_nx X p l % 6 = X (2 * p + l) ∧ X (2 * p + l) < n := by
    intro p l hp hl
    obtain ⟨k1, k2, k3⟩ := key p l hp hl
    have := hx (p % 6) l hp.2 hl
    rw [← k2] at this
    have hp1 := hp.1
    unfold mm_nx
    exact ⟨by omega, by omega, this⟩
  refine ⟨fun p l hp hl => ?_, fun p l hp hl => ?_, fun p l hp hl => ?_⟩
  · obtain ⟨k1, k2, k3⟩ := key p l hp hl
    rw [k1, k2]
    exact (hr (p % 6) l hp.2 hl).2
  · obtain ⟨k1, k2, k3⟩ := key p l hp hl
    obtain ⟨n1, n2, n3⟩ := nxt p l hp hl
    rw [show mm_f m n b (mm_nx X p l) = 6 * m + (mm_nx X p l % 6 + b) % n from rfl, n2, k2]
    show 6 * (mm_f m n b p / 6) + X' (2 * mm_f m n b p + l) = _
    rw [k3, k1, (hr (p % 6) l hp.2 hl).1]
  · obtain ⟨n1, n2, n3⟩ := nxt p l hp hl
    exact ⟨n1, by rw [n2]; exact n3⟩
theorem mm_f_at {o m n b s : Nat} (h6 : n ≤ 6) (hs : s < n) : mm_f m n b (6 * o + s) = 6 * m + (s + b) % n := by
  unfold mm_f
  rw [show (6 * o + s) % 6 = s by omega]
theorem mm_Po_at {o n s : Nat} (h6 : n ≤ 6) (hs : s < n) : mm_Po o n (6 * o + s) := ⟨by omega, by omega⟩
theorem mm_ro_eq {o m n b s t k : Nat} {X A X' A' : Nat → Nat} (h1 : 1 ≤ n) (h6 : n ≤ 6) (hx : mm_in o n X) (hr : mm_ro o m n b X A X' A') (hs : s < n) (ht : t < n) : mm_eq X' A' k (6 * m + (s + b) % n) (6 * m + (t + b) % n) = mm_eq X A k (6 * o + s) (6 * o + t) := by
  obtain ⟨t1, t2, t3⟩ := mm_turn h1 h6 hx hr
  rw [← mm_f_at (o := o) h6 hs, ← mm_f_at (o := o) h6 ht]
  exact mm_sim t1 t2 t3 k _ _ (mm_Po_at h6 hs) (mm_Po_at h6 ht)
theorem mm_ro_bis {o m n b s k : Nat} {X A : Nat → Nat} (h1 : 1 ≤ n) (h6 : n ≤ 6) (hx : mm_in o n X) (hr : mm_ro o m n b X A X A) (hs : s < n) : mm_eq X A k (6 * o + s) (6 * m + (s + b) % n) = true := by
  obtain ⟨t1, t2, t3⟩ := mm_turn h1 h6 hx hr
  rw [← mm_f_at (o := o) h6 hs]
  exact mm_bis t1 t2 t3 k _ (mm_Po_at h6 hs)
theorem mm_ro_cl {o m n b : Nat} {X A X' A' : Nat → Nat} (h1 : 1 ≤ n) (h6 : n ≤ 6) (hb : b < 6) (hx : mm_in o n X) (hr : mm_ro o m n b X A X' A') : mm_cl (mm_lq X' A' m n) n = mm_cl (mm_lq X A o n) n := by
  refine mm_cl_eq (f := fun s => (s + b) % n) (g := fun t => (t + (n - b % n)) % n) (fun s _ => Nat.mod_lt _ (by omega)) (fun s _ => Nat.mod_lt _ (by omega)) (fun s hs => mm_rot_inv n (by omega) b hb s hs) (fun s t hs ht => ?_) mm_lq_refl mm_lq_symm mm_lq_trans mm_lq_refl mm_lq_symm mm_lq_trans
  show mm_lq X' A' m n ((s + b) % n) ((t + b) % n) = _
  rw [mm_lq_in (Nat.mod_lt _ (by omega)) (Nat.mod_lt _ (by omega)), mm_lq_in hs ht]
  exact mm_ro_eq h1 h6 hx hr hs ht
theorem mm_ro_reset {o m n b : Nat} {X A X' A' : Nat → Nat} (h1 : 1 ≤ n) (h6 : n ≤ 6) (hb : b < 6) (hx : mm_in o n X) (hr : mm_ro o m n b X A X' A') : mm_reset n (mm_lx X' m n) = mm_reset n (mm_lx X o n) := by
  refine mm_reset_rot (b := b) (by omega) h1 hb (fun s l hs hl => ?_) (fun s l hs hl => ?_)
  · rw [mm_lx_in hs hl]
    exact hx s l hs hl
  · rw [mm_lx_in (Nat.mod_lt _ (by omega)) hl, mm_lx_in hs hl]
    exact (hr s l hs hl).1
theorem mm_ro_core {o m n : Nat} {X A X' A' : Nat → Nat} (h1 : 1 ≤ n) (h6 : n ≤ 6) (hx : mm_in o n X) (hr : mm_ro o m n 0 X A X' A') : mm_core n (mm_lx X' m n) (mm_lq X' A' m n) = mm_core n (mm_lx X o n) (mm_lq X A o n) := by
  have e1 : mm_lx X' m n = mm_lx X o n := mm_lx_eq (fun s l hs hl => by
    have := (hr s l hs hl).1
    rw [Nat.add_zero, Nat.mod_eq_of_lt hs, Nat.add_zero, Nat.mod_eq_of_lt (hx s l hs hl)] at this
    exact this)
  have e2 : mm_lq X' A' m n = mm_lq X A o n := mm_lq_eq (fun s t hs ht => by
    have := mm_ro_eq (k := 11) h1 h6 hx hr hs ht
    rw [Nat.add_zero, Nat.mod_eq_of_lt hs, Nat.add_zero, Nat.mod_eq_of_lt ht] at this
    exact this)
  rw [e1, e2]
theorem mm_rn_f {X A : Nat → Nat} {f : Nat → Nat} {P : Nat → Prop} {w : Nat} (hX : ∀ p l, P p → l < 2 → mm_nx X (f p) l = f (mm_nx X p l)) (hP : ∀ p l, P p → l < 2 → P (mm_nx X p l)) : ∀ k p, P p → mm_rn X w k (f p) = f (mm_rn X w k p) ∧ P (mm_rn X w k p) := by
  intro k
  induction k with
  | zero => intro p hp; exact ⟨rfl, hp⟩
  | succ k ih =>
    intro p hp
    have hl : w / 2 ^ k % 2 < 2 := Nat.mod_lt _ (by decide)
    show mm_rn X w k (mm_nx X (f p) (w / 2 ^ k % 2)) = f (mm_rn X w k (mm_nx X p (w / 2 ^ k % 2))) ∧ P (mm_rn X w k (mm_nx X p (w / 2 ^ k % 2)))
    rw [hX p _ hp hl]
    exact ih _ (hP p _ hp hl)
theorem mm_rs_f {X A : Nat → Nat} {f : Nat → Nat} {P : Nat → Prop} {w : Nat} (hA : ∀ p l, P p → l < 2 → A (2 * f p + l) = A (2 * p + l)) (hX : ∀ p l, P p → l < 2 → mm_nx X (f p) l = f (mm_nx X p l)) (hP : ∀ p l, P p → l < 2 → P (mm_nx X p l)) : ∀ k p r, P p → mm_rs X A w k (f p) r = mm_rs X A w k p r := by
  intro k
  induction k with
  | zero => intro p r hp; rfl
  | succ k ih =>
    intro p r hp
    have hl : w / 2 ^ k % 2 < 2 := Nat.mod_lt _ (by decide)
    show mm_rs X A w k (mm_nx X (f p) (w / 2 ^ k % 2)) (4 * r + A (2 * f p + w / 2 ^ k % 2)) = mm_rs X A w k (mm_nx X p (w / 2 ^ k % 2)) (4 * r + A (2 * p + w / 2 ^ k % 2))
    rw [hX p _ hp hl, hA p _ hp hl]
    exact ih _ _ (hP p _ hp hl)
theorem mm_ro_rs {o m n b s w k : Nat} {X A : Nat → Nat} (h1 : 1 ≤ n) (h6 : n ≤ 6) (hx : mm_in o n X) (hr : mm_ro o m n b X A X A) (hs : s < n) : mm_rs X A w k (6 * m + (s + b) % n) 0 = mm_rs X A w k (6 * o + s) 0 := by
  obtain ⟨t1, t2, t3⟩ := mm_turn h1 h6 hx hr
  rw [← mm_f_at (o := o) h6 hs]
  exact mm_rs_f t1 t2 t3 k _ 0 (mm_Po_at h6 hs)
theorem mm_ro_rn {o m n b s w k : Nat} {X A : Nat → Nat} (h1 : 1 ≤ n) (h6 : n ≤ 6) (hx : mm_in o n X) (hr : mm_ro o m n b X A X A) (hs : s < n) : (mm_rn X w k (6 * o + s) % 6 + b) % n = mm_rn X w k (6 * m + (s + b) % n) % 6 := by
  obtain ⟨t1, t2, t3⟩ := mm_turn h1 h6 hx hr
  rw [← mm_f_at (o := o) h6 hs, (mm_rn_f (A := A) (w := w) t2 t3 k _ (mm_Po_at h6 hs)).1]
  have hm : (mm_rn X w k (6 * o + s) % 6 + b) % n < n := Nat.mod_lt _ (by omega)
  unfold mm_f
  omega
/-- a machine of zeros -/
theorem mm_zero {m n : Nat} {X A : Nat → Nat} (h1 : 1 ≤ n) (h6 : n ≤ 6) (h : ∀ k, k < 12 → X (12 * m + k) = 0 ∧ A (12 * m + k) = 0) : mm_lx X m n = (fun _ _ => 0) ∧ mm_lq X A m n = (fun s t => decide (s < n ∧ t < n)) := by
  constructor
  · funext s l
    show (if s < n ∧ l < 2 then X (12 * m + 2 * s + l) else 0) = 0
    by_cases c : s < n ∧ l < 2
    · rw [if_pos c, Nat.add_assoc]
      exact (h (2 * s + l) (by omega)).1
    · rw [if_neg c]
  · have e : ∀ p l, mm_Po m n p → l < 2 → 2 * p + l = 12 * m + (2 * (p % 6) + l) := by
      intro p l hp hl
      obtain ⟨p1, p2⟩ := hp
      omega
    have hall := mm_all (X := X) (A := A) (P := mm_Po m n) (fun p l hp hl => by
      have hp2 := hp.2
      rw [e p l hp hl]
      exact (h (2 * (p % 6) + l) (by omega)).2) (fun p l hp hl => by
      have hp1 := hp.1
      have hp2 := hp.2
      have h0 := (h (2 * (p % 6) + l) (by omega)).1
      rw [← e p l hp hl] at h0
      unfold mm_nx
      rw [h0]
      exact ⟨by omega, by omega⟩)
    funext s t
    by_cases c : s < n ∧ t < n
    · rw [mm_lq_in c.1 c.2, hall 11 _ _ (mm_Po_at h6 c.1) (mm_Po_at h6 c.2), decide_eq_true c]
    · show (decide (s < n ∧ t < n) && mm_eq X A 11 (6 * m + s) (6 * m + t)) = decide (s < n ∧ t < n)
      rw [decide_eq_false c, Bool.false_and]
theorem mm_G_in {N X A : Nat → Nat} {a1 a2 a3 : Nat → Int32} {o : Nat} (hG : mm_G N X A a1 a2 a3) (ho : o < 2) : mm_in o (N o) X := by
  intro s l hs hl
  rw [Nat.add_assoc]
  exact hG.2.2 o (2 * s + l) ho (by omega)
theorem mm_log {w : Nat} (h1 : 1 ≤ w) (h2 : w < 64) : ∃ k, k ≤ 11 ∧ 2 ^ k ≤ w ∧ w < 2 ^ (k + 1) := by
  have a := Nat.log2_self_le (n := w) (by omega)
  refine ⟨Nat.log2 w, ?_, a, Nat.lt_log2_self⟩
  rcases Nat.lt_or_ge 11 (Nat.log2 w) with z | z
  · have : 2 ^ 11 ≤ 2 ^ Nat.log2 w := Nat.pow_le_pow_right (by decide) (by omega)
    omega
  · exact z
/-- words of one letter -/
theorem mm_rn1 {X : Nat → Nat} {p l : Nat} (hl : l < 2) : mm_rn X (2 + l) 1 p = mm_nx X p l := by
  show mm_nx X p ((2 + l) / 2 ^ 0 % 2) = _
  rw [show (2 + l) / 2 ^ 0 % 2 = l by omega]
theorem mm_rs1 {X A : Nat → Nat} {p l : Nat} (hl : l < 2) : mm_rs X A (2 + l) 1 p 0 = A (2 * p + l) := by
  show 4 * 0 + A (2 * p + (2 + l) / 2 ^ 0 % 2) = _
  rw [show (2 + l) / 2 ^ 0 % 2 = l by omega, Nat.mul_zero, Nat.zero_add]
end
section
/-! the law's end -/
theorem mm_744 {post : Int32 → Prop} {L : Nat} {xs : Nat → Int32} {N X A X0 A0 : Nat → Nat} {kc ks : Nat} {c f : Int32} {a1 a2 a3 a4 a5 a6 a7 a8 : Nat → Int32} {m o n : Nat} {z0 z1 : Int32} (hp : post 1) (hS : mm_S N X A (c, f, a1, a2, a3, a4, a5, a6, a7, a8)) (hm : m < 2) (ho : o + m = 1) (h1 : 1 ≤ n) (h6 : n ≤ 6) (hNm : N m = n) (hNo : N o = n) (hx0 : mm_in o n X0) (hag : mm_ag o X0 A0 X A) (hz : z1 = z0) : wL_law_744 post L xs (nI m) (nI o) (nI n) (nI (mm_core n (mm_lx X0 o n) (mm_lq X0 A0 o n))) z0 z1 kc ks c f a1 a2 a3 a4 a5 a6 a7 a8 := by
  have hG : mm_G N X A a1 a2 a3 := hS.1
  unfold wL_law_744
  refine br_t hz (mm_size_no hm (by decide) ?_)
  refine br_t rfl (mm_states hG hm (br_t (congrArg nI hNm) (mm_coreX hS (show o < 2 by omega) (fun c f a1 a2 a3 a4 a5 a6 a7 a8 hS' => ?_))))
  dsimp only
  refine br_t (congrArg nI ?_) hp
  rw [hNo]
  exact mm_ro_core h1 h6 hx0 (mm_ag_ro h6 hx0 hag)
theorem mm_606 {post : Int32 → Prop} {J : Int32 → Prop} {L : Nat} {xs : Nat → Int32} {N X A : Nat → Nat} {kc ks : Nat} {c f x3 x5 : Int32} {a1 a2 a3 a4 a5 a6 a7 a8 : Nat → Int32} {m n d x s l k : Nat} (hG : mm_G N X A a1 a2 a3) (hm : m < 2) (h1 : 1 ≤ n) (h6 : n ≤ 6) (hNm : N m = n) (hd : d ≤ 20) (hx : x ≤ 63) (hW : ∀ k, k < 2 * n → X (12 * m + k) = (k / 2 * (x / 8) + k % 2 + d) % n ∧ A (12 * m + k) = (k / 2 * (k / 2) + k % 2 * (x % 8) + d) % 4) (hs : s < n) (hl : l < 2) (H : wL_law_606 post L xs J (nI m) x3 (nI n) x5 (nI d) (nI x) (nI s) kc ks c f a1 a2 a3 a4 a5 a6 a7 a8 k (nI (l + 1))) : wL_law_606 post L xs J (nI m) x3 (nI n) x5 (nI d) (nI x) (nI s) kc ks c f a1 a2 a3 a4 a5 a6 a7 a8 (k + 1) (nI l) := by
  have e3 : nI x >>> ((3 : Int32) &&& 31) = nI (x / 8) := pk_shrN (by omega) _ 3 (by decide)
  have e4 : nI x &&& 7 = nI (x % 8) := pk_andN (by omega) 3 (by decide)
  have b1 : s * (x / 8) ≤ 5 * 7 := Nat.mul_le_mul (by omega) (by omega)
  have b4 : s * s ≤ 5 * 5 := Nat.mul_le_mul (by omega) (by omega)
  have b5 : l * (x % 8) ≤ 1 * 7 := Nat.mul_le_mul (by omega) (by omega)
  have hw := hW (2 * s + l) (by omega)
  rw [show (2 * s + l) / 2 = s by omega, show (2 * s + l) % 2 = l by omega] at hw
  have e2 : (2 : Int32) + nI l = nI (2 + l) := nI_add 2 l
  have hlv := mm_lv6 hG hm (show s < N m by omega)
  have hnx := mm_lvn hG hlv hl
  have hq : 2 * (6 * m + s) + l = 12 * m + (2 * s + l) := by omega
  refine pk_le 2 l (fun z => absurd z (by omega)) (fun _ => nm_r (mm_i8 m s) ?_)
  refine mm_run (w := 2 + l) (k := 1) hG hm (show s < N m by omega) rfl e2 (by decide) (by omega) (by omega) ?_
  rw [mm_rn1 hl, hnx.2.2, hq, hw.1, e3, pk_mul, nI_add, nI_add]
  refine ⟨nI_ne0 (by omega) (by omega), br_t (pk_rem (by omega) (by omega) (by omega)).symm ?_⟩
  refine mm_response (w := 2 + l) (k := 1) hG hm (show s < N m by omega) rfl e2 (by decide) (by omega) (by omega) ?_
  rw [mm_rs1 hl, hq, hw.2, e4, pk_mul, pk_mul, nI_add, nI_add]
  exact ⟨by decide, br_t (pk_rem (d := 4) (by omega) (by decide) (by decide)).symm (nm_r (nI_1 l) H)⟩
theorem mm_596 {post : Int32 → Prop} {L : Nat} {xs : Nat → Int32} {N X A X0 A0 : Nat → Nat} {kc ks : Nat} {c f : Int32} {a1 a2 a3 a4 a5 a6 a7 a8 : Nat → Int32} {m o n d x : Nat} (hp : post 1) (hS : mm_S N X A (c, f, a1, a2, a3, a4, a5, a6, a7, a8)) (hm : m < 2) (ho : o + m = 1) (h1 : 1 ≤ n) (h6 : n ≤ 6) (hNm : N m = n) (hNo : N o = n) (hx0 : mm_in o n X0) (hag : mm_ag o X0 A0 X A) (hd : d ≤ 20) (hx : x ≤ 63) (hW : ∀ k, k < 2 * n → X (12 * m + k) = (k / 2 * (x / 8) + k % 2 + d) % n ∧ A (12 * m + k) = (k / 2 * (k / 2) + k % 2 * (x % 8) + d) % 4) : ∀ j s, s + j = n → wL_law_596 post L xs (nI m) (nI o) (nI n) (nI (mm_core n (mm_lx X0 o n) (mm_lq X0 A0 o n))) (nI d) (nI x) kc ks c f a1 a2 a3 a4 a5 a6 a7 a8 (j + 1) (nI s) := by
  have hG : mm_G N X A a1 a2 a3 := hS.1
  intro j
  induction j with
  | zero =>
    intro s hs
    have : s = n := by omega
    subst this
    refine pk_le s s (fun _ => ?_) (fun z => absurd z (by omega))
    refine mm_size hS hm ho h1 h6 (fun X' A' c f a1 a2 a3 a4 a5 a6 a7 a8 hS1 ag1 hZ => ?_)
    have hN1 : mm_up N m s m = s := mm_us
    have hN2 : mm_up N m s o = s := by rw [mm_un (by omega)]; exact hNo
    obtain ⟨zx, zq⟩ := mm_zero h1 h6 hZ
    dsimp only
    refine br_t (congrArg nI hNm) (mm_classes hS1 hm (fun c f a1 a2 a3 a4 a5 a6 a7 a8 hS2 => ?_))
    dsimp only
    refine br_t ?_ (mm_coreX hS2 hm (fun c f a1 a2 a3 a4 a5 a6 a7 a8 hS3 => ?_))
    · rw [hN1, zq, mm_z_cl s (by omega) h1]
      rfl
    dsimp only
    refine br_t ?_ (mm_resetX hS3 hm (fun c f a1 a2 a3 a4 a5 a6 a7 a8 hS4 => ?_))
    · rw [hN1, zx, zq, mm_z_core s (by omega) h1]
      rfl
    dsimp only
    rw [hN1, zx, mm_z_reset s (by omega) h1]
    refine pk_eq s 1 (fun e => ?_) (fun e => ?_)
    · rw [if_pos e]
      exact mm_744 hp hS4 hm ho h1 h6 hN1 hN2 hx0 (mm_ag_trans hag ag1) rfl
    · rw [if_neg e]
      exact mm_744 hp hS4 hm ho h1 h6 hN1 hN2 hx0 (mm_ag_trans hag ag1) rfl
  | succ j ih =>
    intro s hs
    refine pk_le n s (fun z => absurd z (by omega)) (fun _ => ⟨0 + 1 + 1 + 1, ?_⟩)
    refine mm_606 (l := 0) hG hm h1 h6 hNm hd hx hW (by omega) (by decide) (mm_606 (l := 1) hG hm h1 h6 hNm hd hx hW (by omega) (by decide) ?_)
    exact pk_le 2 2 (fun _ => nm_r (nI_1 s) (ih (s + 1) (by omega))) (fun z => absurd z (by omega))
end
section
theorem mm_up_back {X : Nat → Nat} {k a b : Nat} (h : b = X k) : mm_up (mm_up X k a) k b = X := by
  funext j
  by_cases e : j = k
  · rw [e, mm_us, h]
  · rw [mm_un e, mm_un e]
theorem mm_up_same {X : Nat → Nat} {k a : Nat} (h : a = X k) : mm_up X k a = X := by
  funext j
  by_cases e : j = k
  · rw [e, mm_us, h]
  · rw [mm_un e]
theorem mm_478 {post : Int32 → Prop} {L : Nat} {xs : Nat → Int32} {N X A X0 A0 : Nat → Nat} {kc ks : Nat} {c f : Int32} {a1 a2 a3 a4 a5 a6 a7 a8 : Nat → Int32} {m o n t v : Nat} (hp : post 1) (hS : mm_S N (mm_up X (12 * m + t) (v / 4)) (mm_up A (12 * m + t) (v % 4)) (c, f, a1, a2, a3, a4, a5, a6, a7, a8)) (hm : m < 2) (ho : o + m = 1) (h1 : 1 ≤ n) (h6 : n ≤ 6) (hNm : N m = n) (hNo : N o = n) (hx0 : mm_in o n X0) (hag : mm_ag o X0 A0 X A) (he : mm_eq X A 11 0 6 = true) (ht : t < 2 * n) (hv : v / 4 < n) (hX : X (12 * m + t) < n) (hA : A (12 * m + t) < 4) (hL : 4 ≤ L) (hL2 : L ≤ 260) : wL_law_478 post L xs (nI m) (nI o) (nI n) (nI (mm_core n (mm_lx X0 o n) (mm_lq X0 A0 o n))) (nI t) (nI v) (nI (4 * X (12 * m + t) + A (12 * m + t))) kc ks c f a1 a2 a3 a4 a5 a6 a7 a8 := by
  unfold wL_law_478
  refine mm_set hS hm (by omega) (by omega) (fun z => absurd (show t / 2 < N m by omega) z) (fun _ z => absurd (show (4 * X (12 * m + t) + A (12 * m + t)) / 4 < N m by omega) z) (fun _ _ f a2 a3 hS1 => ?_)
  rw [mm_up_back (X := X) (by omega), mm_up_back (X := A) (by omega)] at hS1
  rw [mm_us, mm_us]
  refine br_t (congrArg nI (by omega)) (mm_sameX hS1 he (fun c f a1 a2 a3 a4 a5 a6 a7 a8 hS2 => ?_))
  dsimp only
  rw [mm_l2, mm_l4]
  refine br_t rfl (mm_set (v := 0) hS2 hm (by omega) (by decide) (fun _ => ?_) (fun z => absurd z (by omega)) (fun z => absurd z (by omega)))
  refine br_t rfl (mm_set (t := 0) hS2 hm (by decide) (by omega) (fun z => absurd (show 0 / 2 < N m by omega) z) (fun _ _ => ?_) (fun _ z => absurd z (by omega)))
  obtain ⟨j1, hj1, ej1⟩ := pk_andE (xs (3 : Int32).toNatClampNeg) (m := 31) 5 (by decide)
  obtain ⟨j2, hj2, ej2⟩ := pk_andE (xs (3 : Int32).toNatClampNeg >>> ((5 : Int32) &&& 31)) (m := 63) 6 (by decide)
  have hd : j1 % 21 < 21 := Nat.mod_lt _ (by decide)
  refine br_t rfl ⟨pk_in 3 L (by omega), by decide, nm_r (e' := nI (j1 % 21)) (by rw [ej1]; exact pk_rem (by omega) (by decide) (by decide)) ⟨pk_in 3 L (by omega), nm_r ej2 ?_⟩⟩
  refine mm_weave hS2 hm ho (by omega) (by omega) (fun X' A' c f a1 a2 a3 a4 a5 a6 a7 a8 hS3 ag3 hW => ?_)
  dsimp only
  refine br_t rfl (mm_weave_no hm (fun _ => ?_) (fun g => absurd g (by decide)) (by decide))
  refine br_t rfl (mm_weave_no hm (fun g => absurd (by decide) g) (fun _ => ?_) (by decide))
  rw [hNm] at hW
  exact br_t rfl ⟨n + 1, mm_596 hp hS3 hm ho h1 h6 hNm hNo hx0 (mm_ag_trans hag ag3) (by omega) (by omega) hW n 0 (by omega)⟩
theorem mm_453 {post : Int32 → Prop} {L : Nat} {xs : Nat → Int32} {N X A X0 A0 : Nat → Nat} {kc ks : Nat} {c f : Int32} {a1 a2 a3 a4 a5 a6 a7 a8 : Nat → Int32} {m o n t v w k : Nat} (hp : post 1) (hS : mm_S N (mm_up X (12 * m + t) (v / 4)) (mm_up A (12 * m + t) (v % 4)) (c, f, a1, a2, a3, a4, a5, a6, a7, a8)) (hm : m < 2) (ho : o + m = 1) (h1 : 1 ≤ n) (h6 : n ≤ 6) (hNm : N m = n) (hNo : N o = n) (hx0 : mm_in o n X0) (hag : mm_ag o X0 A0 X A) (he : mm_eq X A 11 0 6 = true) (ht : t < 2 * n) (hv : v / 4 < n) (hX : X (12 * m + t) < n) (hA : A (12 * m + t) < 4) (hL : 4 ≤ L) (hL2 : L ≤ 260) (hw : w ≠ 0 → k ≤ 11 ∧ 2 ^ k ≤ w ∧ w < 2 ^ (k + 1) ∧ mm_rs (mm_up X (12 * m + t) (v / 4)) (mm_up A (12 * m + t) (v % 4)) w k 0 0 % 4 ≠ mm_rs (mm_up X (12 * m + t) (v / 4)) (mm_up A (12 * m + t) (v % 4)) w k 6 0 % 4) : wL_law_453 post L xs (nI m) (nI o) (nI n) (nI (mm_core n (mm_lx X0 o n) (mm_lq X0 A0 o n))) (nI t) (nI v) (nI (4 * X (12 * m + t) + A (12 * m + t))) (nI w) kc ks c f a1 a2 a3 a4 a5 a6 a7 a8 := by
  have hG : mm_G N (mm_up X (12 * m + t) (v / 4)) (mm_up A (12 * m + t) (v % 4)) a1 a2 a3 := hS.1
  have hn0 := (hG.1 0 (by decide)).2
  have hn1 := (hG.1 1 (by decide)).2
  unfold wL_law_453
  by_cases z : w = 0
  · subst z
    exact br_t (by decide) (mm_478 hp hS hm ho h1 h6 hNm hNo hx0 hag he ht hv hX hA hL hL2)
  · obtain ⟨g1, g2, g3, g4⟩ := hw z
    have hk2 : 2 ^ (k + 1) ≤ 2 ^ 12 := Nat.pow_le_pow_right (by decide) (by omega)
    refine br_f (nI_nle (by omega) (by omega)) (mm_response (m := 0) (s := 0) hG (by decide) (by omega) rfl rfl g1 g2 g3 (mm_response (m := 1) (s := 0) hG (by decide) (by omega) rfl rfl g1 g2 g3 (br_f (fun e => g4 (mm_nI4 e)) ?_)))
    exact mm_478 hp hS hm ho h1 h6 hNm hNo hx0 hag he ht hv hX hA hL hL2
end
section
theorem mm_197 {post : Int32 → Prop} {J : Int32 → Int32 → Int32 → (Nat → Int32) → (Nat → Int32) → (Nat → Int32) → (Nat → Int32) → (Nat → Int32) → (Nat → Int32) → (Nat → Int32) → (Nat → Int32) → Prop} {L : Nat} {xs : Nat → Int32} {N X A : Nat → Nat} {kc ks : Nat} {c f x5 : Int32} {a1 a2 a3 a4 a5 a6 a7 a8 : Nat → Int32} {m o n b s : Nat} (hG : mm_G N X A a1 a2 a3) (hm : m < 2) (ho : o + m = 1) (h1 : 1 ≤ n) (h6 : n ≤ 6) (hb : b < 6) (hNm : N m = n) (hNo : N o = n) (hx : mm_in o n X) (hr : mm_ro o m n b X A X A) (hs : s < n) (H : J (nI (s + 1)) c f a1 a2 a3 a4 a5 a6 a7 a8) : ∀ j w, w + j = 64 → 1 ≤ w → wL_law_197 post L xs J (nI m) (nI o) (nI n) x5 (nI b) (nI s) (nI ((s + b) % n)) kc ks c f a1 a2 a3 a4 a5 a6 a7 a8 (j + 1) (nI w) := by
  have hy : (s + b) % n < n := Nat.mod_lt _ (by omega)
  intro j
  induction j with
  | zero =>
    intro w hw _
    exact pk_le 64 w (fun _ => nm_r (nI_1 s) H) (fun z => absurd z (by omega))
  | succ j ih =>
    intro w hw hw1
    obtain ⟨k, k1, k2, k3⟩ := mm_log hw1 (by omega)
    have hrn := mm_ro_rn (w := w) (k := k) h1 h6 hx hr hs
    have hrb : mm_rn X w k (6 * o + s) % 6 < 6 := Nat.mod_lt _ (by decide)
    refine pk_le 64 w (fun z => absurd z (by omega)) (fun _ => ?_)
    refine mm_response hG (show o < 2 by omega) (show s < N o by omega) (mm_i8 o s) rfl k1 k2 k3 (mm_response hG hm (show (s + b) % n < N m by omega) (mm_i8 m _) rfl k1 k2 k3 (br_t (congrArg nI (mm_ro_rs h1 h6 hx hr hs).symm) ?_))
    refine mm_run hG (show o < 2 by omega) (show s < N o by omega) (mm_i8 o s) rfl k1 k2 k3 ⟨nI_ne0 (by omega) (by omega), mm_run hG hm (show (s + b) % n < N m by omega) (mm_i8 m _) rfl k1 k2 k3 (br_t ?_ (nm_r (nI_1 w) (ih (w + 1) (by omega) (by omega))))⟩
    rw [nI_add, pk_rem (by omega) (by omega) (by omega), hrn]
theorem mm_06 {o m : Nat} {X A : Nat → Nat} (ho : o + m = 1) (h : mm_eq X A 11 (6 * o + 0) (6 * m + 0) = true) : mm_eq X A 11 0 6 = true := by
  have : m = 0 ∨ m = 1 := by omega
  rcases this with rfl | rfl
  · have : o = 1 := by omega
    subst this
    exact mm_symm 11 _ _ h
  · have : o = 0 := by omega
    subst this
    exact h
theorem mm_153x {post : Int32 → Prop} {L : Nat} {xs : Nat → Int32} {N X A X0 A0 : Nat → Nat} {kc ks k : Nat} {c f x8 : Int32} {a1 a2 a3 a4 a5 a6 a7 a8 : Nat → Int32} {m o n : Nat} (hp : post 1) (hS : mm_S N X A (c, f, a1, a2, a3, a4, a5, a6, a7, a8)) (hm : m < 2) (ho : o + m = 1) (h1 : 1 ≤ n) (h6 : n ≤ 6) (hNm : N m = n) (hNo : N o = n) (hx0 : mm_in o n X0) (hag : mm_ag o X0 A0 X A) (hL : 4 ≤ L) (hL2 : L ≤ 260) : wL_law_153 post L xs (nI m) (nI o) (nI n) (nI (mm_core n (mm_lx X0 o n) (mm_lq X0 A0 o n))) x8 kc ks (k + 1) (nI n) c f a1 a2 a3 a4 a5 a6 a7 a8 := by
  refine pk_le n n (fun _ => ?_) (fun z => absurd z (by omega))
  refine mm_copy (b := 0) hS hm ho (by decide) (fun X2 A2 c f a1 a2 a3 a4 a5 a6 a7 a8 hS2 ag2 ro2 => ?_)
  rw [hNo] at hS2 ro2 ⊢
  have hN1 : mm_up N m n m = n := mm_us
  have hN2 : mm_up N m n o = n := by rw [mm_un (by omega)]; exact hNo
  have hag2 : mm_ag o X0 A0 X2 A2 := mm_ag_trans hag ag2
  have hro : mm_ro o m n 0 X A X2 A2 := ro2
  have hx2 : mm_in o n X2 := mm_in_ag h6 hx0 hag2
  have hro2 : mm_ro o m n 0 X2 A2 X2 A2 := mm_ro_ag h6 hro ag2
  have hro0 : mm_ro o m n 0 X0 A0 X2 A2 := mm_ro_ag h6 hro (mm_ag_symm hag)
  have he : mm_eq X2 A2 11 0 6 = true := by
    have := mm_ro_bis (k := 11) (s := 0) h1 h6 hx2 hro2 (by omega)
    rw [Nat.add_zero 0, Nat.zero_mod] at this
    exact mm_06 ho this
  dsimp only
  refine br_t rfl (mm_sameX hS2 he (fun c f a1 a2 a3 a4 a5 a6 a7 a8 hS3 => ?_))
  dsimp only
  refine br_t rfl (mm_coreX hS3 hm (fun c f a1 a2 a3 a4 a5 a6 a7 a8 hS4 => ?_))
  dsimp only
  refine br_t (congrArg nI (by rw [hN1]; exact mm_ro_core h1 h6 hx0 hro0)) (mm_diff hS4 (fun _ c f a1 a2 a3 a4 a5 a6 a7 a8 hS5 => ?_) (fun g => absurd he g))
  have hG5 : mm_G (mm_up N m n) X2 A2 a1 a2 a3 := hS5.1
  obtain ⟨j1, hj1, ej1⟩ := pk_andE (xs (2 : Int32).toNatClampNeg) (m := 15) 4 (by decide)
  obtain ⟨j2, hj2, ej2⟩ := pk_andE (xs (2 : Int32).toNatClampNeg >>> ((4 : Int32) &&& 31)) (m := 7) 3 (by decide)
  obtain ⟨j3, hj3, ej3⟩ := pk_andE (xs (2 : Int32).toNatClampNeg >>> ((7 : Int32) &&& 31)) (m := 3) 2 (by decide)
  dsimp only
  have hx9 : (xs (2 : Int32).toNatClampNeg &&& 15) - (xs (2 : Int32).toNatClampNeg &&& 15) / (2 * nI n) * (2 * nI n) = nI (j1 % (2 * n)) := by
    rw [ej1, mm_l2]
    exact pk_rem (by omega) (by omega) (by omega)
  have ht : j1 % (2 * n) < 2 * n := Nat.mod_lt _ (by omega)
  have hv2 : j2 % n < n := Nat.mod_lt _ (by omega)
  have hx10 : 4 * ((xs (2 : Int32).toNatClampNeg >>> ((4 : Int32) &&& 31) &&& 7) - (xs (2 : Int32).toNatClampNeg >>> ((4 : Int32) &&& 31) &&& 7) / nI n * nI n) + (xs (2 : Int32).toNatClampNeg >>> ((7 : Int32) &&& 31) &&& 3) = nI (4 * (j2 % n) + j3) := by
    rw [ej2, ej3, pk_rem (by omega) (by omega) (by omega), mm_l4, nI_add]
  have hv : (4 * (j2 % n) + j3) / 4 < n := by omega
  have hz2 : ¬ (2 : Int32) * nI n = 0 := by
    rw [mm_l2]
    exact nI_ne0 (by omega) (by omega)
  refine br_t rfl ⟨pk_in 2 L (by omega), hz2, nm_r hx9 ⟨pk_in 2 L (by omega), nI_ne0 (by omega) (by omega), pk_in 2 L (by omega), nm_r hx10 ?_⟩⟩
  generalize j1 % (2 * n) = t at ht
  generalize 4 * (j2 % n) + j3 = v at hv
  have hX : X2 (12 * m + t) < n := by
    have := hG5.2.2 m t hm (by omega)
    rw [hN1] at this
    exact this
  have hA : A2 (12 * m + t) < 4 := (hG5.2.1 (12 * m + t) (by omega)).2.2.2
  refine mm_set hS5 hm (by omega) (by omega) (fun z => absurd (show t / 2 < mm_up N m n m by omega) z) (fun _ z => absurd (show v / 4 < mm_up N m n m by omega) z) (fun _ _ f a2 a3 hS6 => ?_)
  have hG6 : mm_G (mm_up N m n) (mm_up X2 (12 * m + t) (v / 4)) (mm_up A2 (12 * m + t) (v % 4)) a1 a2 a3 := hS6.1
  have et : nI t >>> ((1 : Int32) &&& 31) = nI (t / 2) := pk_shrN (by omega) _ 1 (by decide)
  have ev : nI v >>> ((2 : Int32) &&& 31) = nI (v / 4) := pk_shrN (by omega) _ 2 (by decide)
  have ev3 : nI v &&& 3 = nI (v % 4) := pk_andN (by omega) 2 (by decide)
  have e12 : (2 : Int32) + (nI t &&& 1) = nI (2 + t % 2) := by
    have : nI t &&& 1 = nI (t % 2) := pk_andN (by omega) 1 (by decide)
    rw [this]
    exact nI_add 2 (t % 2)
  have htm : t % 2 < 2 := Nat.mod_lt _ (by decide)
  have hlv := mm_lv6 hG6 hm (show t / 2 < mm_up N m n m by omega)
  have hnx := mm_lvn hG6 hlv htm
  have hq : 2 * (6 * m + t / 2) + t % 2 = 12 * m + t := by omega
  have e8 : (8 : Int32) * nI m + nI (t / 2) = nI (8 * m + t / 2) := mm_i8 m (t / 2)
  dsimp only
  rw [et, ev, ev3]
  refine nm_r e12 (br_f (nI_pos (by omega)) ?_)
  refine mm_run (k := 1) hG6 hm (show t / 2 < mm_up N m n m by omega) e8 rfl (by decide) (by omega) (by omega) (br_t ?_ ?_)
  · rw [mm_rn1 htm, hnx.2.2, hq, mm_us]
  refine mm_response (k := 1) hG6 hm (show t / 2 < mm_up N m n m by omega) e8 rfl (by decide) (by omega) (by omega) (br_t ?_ ?_)
  · rw [mm_rs1 htm, hq, mm_us]
  refine mm_diff hS6 (fun _ c f a1 a2 a3 a4 a5 a6 a7 a8 hS7 => ?_) (fun ne w k w1 w2 w3 w4 c f a1 a2 a3 a4 a5 a6 a7 a8 hS7 => ?_)
  · dsimp only
    have h453 := mm_453 (post := post) (L := L) (xs := xs) (kc := kc) (ks := ks) (w := 0) (k := 0) hp hS7 hm ho h1 h6 hN1 hN2 hx0 hag2 he ht hv hX hA hL hL2 (fun z => absurd rfl z)
    exact br_c (fun _ => br_t rfl h453) (fun _ => h453)
  · dsimp only
    refine pk_eq v (4 * X2 (12 * m + t) + A2 (12 * m + t)) (fun e => ?_) (fun e => ?_)
    · rw [mm_up_same (show v / 4 = X2 (12 * m + t) by omega), mm_up_same (show v % 4 = A2 (12 * m + t) by omega)] at ne
      exact absurd he ne
    · exact mm_453 hp hS7 hm ho h1 h6 hN1 hN2 hx0 hag2 he ht hv hX hA hL hL2 (fun _ => ⟨w1, w2, w3, w4⟩)
theorem mm_153 {post : Int32 → Prop} {L : Nat} {xs : Nat → Int32} {N X A X0 A0 : Nat → Nat} {kc ks : Nat} {m o n b : Nat} (hp : post 1) (hm : m < 2) (ho : o + m = 1) (h1 : 1 ≤ n) (h6 : n ≤ 6) (hb : b < 6) (hNm : N m = n) (hNo : N o = n) (hx0 : mm_in o n X0) (hag : mm_ag o X0 A0 X A) (hro : mm_ro o m n b X A X A) (hL : 4 ≤ L) (hL2 : L ≤ 260) : ∀ j s c f a1 a2 a3 a4 a5 a6 a7 a8, s + j = n → mm_S N X A (c, f, a1, a2, a3, a4, a5, a6, a7, a8) → wL_law_153 post L xs (nI m) (nI o) (nI n) (nI (mm_core n (mm_lx X0 o n) (mm_lq X0 A0 o n))) (nI b) kc ks (j + 1) (nI s) c f a1 a2 a3 a4 a5 a6 a7 a8 := by
  have hx : mm_in o n X := mm_in_ag h6 hx0 hag
  intro j
  induction j with
  | zero =>
    intro s c f a1 a2 a3 a4 a5 a6 a7 a8 hs hS
    have : s = n := by omega
    subst this
    exact mm_153x hp hS hm ho h1 h6 hNm hNo hx0 hag hL hL2
  | succ j ih =>
    intro s c f a1 a2 a3 a4 a5 a6 a7 a8 hs hS
    have hsn : s < n := by omega
    have hy : (s + b) % n < n := Nat.mod_lt _ (by omega)
    refine pk_le n s (fun z => absurd z (by omega)) (fun _ => ⟨nI_ne0 (by omega) (by omega), nm_r (e' := nI ((s + b) % n)) (by rw [nI_add]; exact pk_rem (by omega) (by omega) (by omega)) ?_⟩)
    refine mm_alikeX hS (show o < 2 by omega) hm (show s < N o by omega) (show (s + b) % n < N m by omega) (mm_i8 o s) (mm_i8 m _) (mm_ro_bis h1 h6 hx hro hsn) (fun c f a1 a2 a3 a4 a5 a6 a7 a8 hS' => ?_)
    dsimp only
    exact br_t rfl ⟨64, mm_197 hS'.1 hm ho h1 h6 hb hNm hNo hx hro hsn (ih (s + 1) c f a1 a2 a3 a4 a5 a6 a7 a8 (by omega) hS') 63 1 (by decide) (by decide)⟩
end
section
theorem mm_18x {post : Int32 → Prop} {L : Nat} {xs : Nat → Int32} {kc ks k i : Nat} {c f : Int32} {a1 a2 a3 a4 a5 a6 a7 a8 : Nat → Int32} (hp : post 1) (hP : mm_P (c, f, a1, a2, a3, a4, a5, a6, a7, a8)) (hL : 4 ≤ L) (hL2 : L ≤ 260) (hi : L ≤ i + 3) (hi2 : i ≤ 300) : wL_law_18 post L xs kc ks (k + 1) (nI i) c f a1 a2 a3 a4 a5 a6 a7 a8 := by
  obtain ⟨N, X, A, hS⟩ := hP
  have hG : mm_G N X A a1 a2 a3 := hS.1
  obtain ⟨m, hm, em⟩ := pk_andE (xs (0 : Int32).toNatClampNeg) (m := 1) 1 (by decide)
  obtain ⟨j1, hj1, ej1⟩ := pk_andE (xs (1 : Int32).toNatClampNeg) (m := 7) 3 (by decide)
  have hm2 : m < 2 := hm
  obtain ⟨o, ho⟩ : ∃ o, o + m = 1 := ⟨1 - m, by omega⟩
  have ho2 : o < 2 := by omega
  have hn := (hG.1 o ho2).2
  have h1 := hn.1
  have h6 := hn.2
  have eo : (1 : Int32) - nI m = nI o := by
    have := pk_sub (a := 1) (b := m) (by omega)
    rw [show 1 - m = o by omega] at this
    exact this
  have hb : j1 % 6 < 6 := Nat.mod_lt _ (by decide)
  refine pk_le L (i + 3) (fun _ => ⟨pk_in 0 L (by omega), nm_r em (nm_r eo ?_)⟩) (fun z => absurd z (by omega)) rfl (nI_add i 3)
  refine mm_states hG ho2 (mm_coreX hS ho2 (fun c f a1 a2 a3 a4 a5 a6 a7 a8 hS1 => ?_))
  dsimp only
  refine mm_classes hS1 ho2 (fun c f a1 a2 a3 a4 a5 a6 a7 a8 hS2 => ?_)
  dsimp only
  refine mm_resetX hS2 ho2 (fun c f a1 a2 a3 a4 a5 a6 a7 a8 hS3 => ?_)
  dsimp only
  refine ⟨pk_in 1 L (by omega), by decide, nm_r (e' := nI (j1 % 6)) (by rw [ej1]; exact pk_rem (by omega) (by decide) (by decide)) ?_⟩
  refine mm_copy hS3 hm2 ho hb (fun X1 A1 c f a1 a2 a3 a4 a5 a6 a7 a8 hS4 ag4 ro4 => ?_)
  have hG4 : mm_G (mm_up N m (N o)) X1 A1 a1 a2 a3 := hS4.1
  have hN1 : mm_up N m (N o) m = N o := mm_us
  have hN2 : mm_up N m (N o) o = N o := mm_un (by omega)
  have hx0 : mm_in o (N o) X := mm_G_in hG ho2
  have hro0 : mm_ro o m (N o) (j1 % 6) X A X1 A1 := ro4
  dsimp only
  refine br_t rfl (mm_states hG4 hm2 (br_t (congrArg nI hN1) (mm_classes hS4 hm2 (fun c f a1 a2 a3 a4 a5 a6 a7 a8 hS5 => ?_))))
  dsimp only
  refine br_t (congrArg nI (by rw [hN1]; exact mm_ro_cl h1 h6 hb hx0 hro0)) (mm_resetX hS5 hm2 (fun c f a1 a2 a3 a4 a5 a6 a7 a8 hS6 => ?_))
  dsimp only
  refine br_t (congrArg nI (by rw [hN1]; exact mm_ro_reset h1 h6 hb hx0 hro0)) ⟨N o + 1, ?_⟩
  exact mm_153 hp hm2 ho h1 h6 hb hN1 hN2 hx0 ag4 (mm_ro_ag h6 hro0 ag4) hL hL2 (N o) 0 c f a1 a2 a3 a4 a5 a6 a7 a8 (by omega) hS6
theorem mm_18 {post : Int32 → Prop} {L : Nat} {xs : Nat → Int32} {kc ks : Nat} (hp : post 1) (hL : 4 ≤ L) (hL2 : L ≤ 260) : ∀ j i c f a1 a2 a3 a4 a5 a6 a7 a8, L ≤ i + j → i ≤ 300 → mm_P (c, f, a1, a2, a3, a4, a5, a6, a7, a8) → wL_law_18 post L xs kc ks (j + 1) (nI i) c f a1 a2 a3 a4 a5 a6 a7 a8 := by
  intro j
  induction j with
  | zero =>
    intro i c f a1 a2 a3 a4 a5 a6 a7 a8 hi hi2 hP
    exact mm_18x hp hP hL hL2 (by omega) hi2
  | succ j ih =>
    intro i c f a1 a2 a3 a4 a5 a6 a7 a8 hi hi2 hP
    by_cases d : L ≤ i + 3
    · exact mm_18x hp hP hL hL2 d hi2
    · refine pk_le L (i + 3) (fun z => absurd z d) (fun _ => ⟨pk_in i L (by omega), pk_in (i + 1) L (by omega) (nI_add i 1), pk_in (i + 2) L (by omega) (nI_add i 2), pk_in (i + 3) L (by omega) (nI_add i 3), ?_⟩) rfl (nI_add i 3)
      refine mm_call hP (fun c f a1 a2 a3 a4 a5 a6 a7 a8 hP' => ?_)
      dsimp only
      exact nm_r (nI_add i 4) (ih (i + 4) c f a1 a2 a3 a4 a5 a6 a7 a8 (by omega) (by omega) hP')
theorem mm_start : mm_P (0, 0, upd (upd (fun _ => 0) 0 1) 1 1, (fun _ => 0), (fun _ => 0), (fun _ => 0), (fun _ => 0), (fun _ => 0), (fun _ => 0), (fun _ => 0)) := by
  refine ⟨fun _ => 1, fun _ => 0, fun _ => 0, ⟨fun m hm => ?_, fun k hk => ⟨rfl, rfl, (by decide : (0 : Nat) < 6), (by decide : (0 : Nat) < 4)⟩, fun m k _ _ => (by decide : (0 : Nat) < 1)⟩, fun z => absurd rfl z⟩
  have : m = 0 ∨ m = 1 := by omega
  rcases this with rfl | rfl
  · exact ⟨rfl, by decide, by decide⟩
  · exact ⟨rfl, by decide, by decide⟩
theorem i_vc (xs : Nat → Int32) (L : Nat) (hL : L ≤ 260) : wpL_law (fun r => r = 1) L xs := by
  unfold wpL_law
  refine pk_le 4 L (fun h4 => ⟨8, 346, by decide, by decide, ?_⟩) (fun _ => rfl)
  unfold wpX_init
  dsimp only
  refine ⟨by decide, by decide, by decide, by decide, by decide, by decide, by decide, by decide, by decide, by decide, by decide, by decide, by decide, by decide, by decide, by decide, nm_e (nm_e ⟨L + 1, ?_⟩)⟩
  exact mm_18 (post := fun r => r = 1) rfl h4 hL L 4 0 0 _ _ _ _ _ _ _ _ (by omega) (by decide) mm_start
end
