section
/-! the picture: C p counts the events of p, K p k q is what state k of p knows of q, g holds which states are good -/
def cw_G (g : Nat → Int32) (p k : Nat) : Prop := ¬ g (9 * p + k) = 0
/-- the arrays hold the picture -/
def cw_R (C : Nat → Nat) (K : Nat → Nat → Nat → Nat) (a1 a3 : Nat → Int32) : Prop :=
  (∀ p, p < 3 → C p ≤ 8 ∧ a1 p = nI (C p)) ∧
  (∀ p k q, p < 3 → k ≤ 8 → q < 3 → K p k q ≤ 8 ∧ a3 (27 * p + 3 * k + q) = nI (K p k q))
/-- the laws of the clocks -/
def cw_L (C : Nat → Nat) (K : Nat → Nat → Nat → Nat) : Prop :=
  (∀ p k q, p < 3 → k ≤ C p → q < 3 → K p k q ≤ C q) ∧
  (∀ p k, p < 3 → k ≤ C p → K p k p = k) ∧
  (∀ p q, p < 3 → q < 3 → K p 0 q = 0) ∧
  (∀ q k p m r, q < 3 → k ≤ C q → p < 3 → r < 3 → m ≤ K q k p → K p m r ≤ K q k r) ∧
  (∀ p k q j, p < 3 → k ≤ C p → q < 3 → p ≠ q → 1 ≤ j → j ≤ K p k q → K q j p < k)
theorem cw_mono {C : Nat → Nat} {K : Nat → Nat → Nat → Nat} (h : cw_L C K) {p q k k' : Nat} (hp : p < 3) (hq : q < 3) (hk : k ≤ k') (hk' : k' ≤ C p) : K p k q ≤ K p k' q := by
  obtain ⟨_, h2, _, h4, _⟩ := h
  refine h4 p k' p k q hp hk' hp hq ?_
  rw [h2 p k' hp hk']
  exact hk
def cw_uC (C : Nat → Nat) (p : Nat) : Nat → Nat := fun x => if x = p then C p + 1 else C x
def cw_uK (K : Nat → Nat → Nat → Nat) (p k : Nat) (V : Nat → Nat) : Nat → Nat → Nat → Nat := fun x j q => if x = p ∧ j = k then V q else K x j q
theorem cw_uC_s {C : Nat → Nat} {p : Nat} : cw_uC C p p = C p + 1 := by unfold cw_uC; rw [if_pos rfl]
theorem cw_uC_n {C : Nat → Nat} {p x : Nat} (h : x ≠ p) : cw_uC C p x = C x := by unfold cw_uC; rw [if_neg h]
theorem cw_uC_le {C : Nat → Nat} {p x : Nat} : C x ≤ cw_uC C p x := by
  by_cases h : x = p
  · rw [h, cw_uC_s]; omega
  · rw [cw_uC_n h]; exact Nat.le_refl _
theorem cw_uK_s {K : Nat → Nat → Nat → Nat} {p k q : Nat} {V : Nat → Nat} : cw_uK K p k V p k q = V q := by unfold cw_uK; rw [if_pos ⟨rfl, rfl⟩]
theorem cw_uK_n {K : Nat → Nat → Nat → Nat} {p k x j q : Nat} {V : Nat → Nat} (h : ¬ (x = p ∧ j = k)) : cw_uK K p k V x j q = K x j q := by unfold cw_uK; rw [if_neg h]
theorem cw_uK_o {C : Nat → Nat} {K : Nat → Nat → Nat → Nat} {p x j q : Nat} {V : Nat → Nat} (h : j ≤ C x) : cw_uK K p (C p + 1) V x j q = K x j q :=
  cw_uK_n (fun z => by
    have h1 : j ≤ C p := z.1 ▸ h
    have h2 := z.2
    omega)
theorem cw_uC_or {C : Nat → Nat} {p x k : Nat} (h : k ≤ cw_uC C p x) : k ≤ C x ∨ (x = p ∧ k = C p + 1) := by
  by_cases e : x = p
  · rw [e, cw_uC_s] at h
    rw [e]
    omega
  · rw [cw_uC_n e] at h
    exact Or.inl h
/-- a new state of p, whose clock is the larger one of p's last state and of a state d of s -/
theorem cw_Ladv {C : Nat → Nat} {K : Nat → Nat → Nat → Nat} {p s d : Nat} {V : Nat → Nat} (h : cw_L C K) (hp : p < 3) (hs : s < 3) (hd : d ≤ C s) (hV : V p = C p + 1)
    (hVq : ∀ q, q < 3 → q ≠ p → V q = max (K p (C p) q) (K s d q)) : cw_L (cw_uC C p) (cw_uK K p (C p + 1) V) := by
  have hm := @cw_mono C K h
  obtain ⟨h1, h2, h3, h4, h5⟩ := h
  have lV : ∀ r, r < 3 → K p (C p) r ≤ V r ∧ K s d r ≤ V r := by
    intro r hr
    by_cases e : r = p
    · have a1 := h1 p (C p) p hp (Nat.le_refl _) hp
      have a2 := h1 s d p hs hd hp
      rw [e, hV]
      omega
    · rw [hVq r hr e]
      omega
  have uV : ∀ r, r < 3 → V r ≤ cw_uC C p r := by
    intro r hr
    by_cases e : r = p
    · rw [e, hV, cw_uC_s]
      exact Nat.le_refl _
    · have a1 := h1 p (C p) r hp (Nat.le_refl _) hr
      have a2 := h1 s d r hs hd hr
      rw [hVq r hr e, cw_uC_n e]
      omega
  refine ⟨?_, ?_, ?_, ?_, ?_⟩
  · intro x k q hx hk hq
    rcases cw_uC_or hk with e | ⟨e, e'⟩
    · rw [cw_uK_o e]
      exact Nat.le_trans (h1 x k q hx e hq) cw_uC_le
    · rw [e, e', cw_uK_s]
      exact uV q hq
  · intro x k hx hk
    rcases cw_uC_or hk with e | ⟨e, e'⟩
    · rw [cw_uK_o e]
      exact h2 x k hx e
    · rw [e, e', cw_uK_s, hV]
  · intro x q hx hq
    rw [cw_uK_o (Nat.zero_le _)]
    exact h3 x q hx hq
  · intro q k x m r hq hk hx hr hmk
    rcases cw_uC_or hk with e | ⟨e, e'⟩
    · rw [cw_uK_o e] at hmk
      rw [cw_uK_o e, cw_uK_o (Nat.le_trans hmk (h1 q k x hq e hx))]
      exact h4 q k x m r hq e hx hr hmk
    · rw [e, e', cw_uK_s] at hmk
      rw [e, e', cw_uK_s]
      by_cases ex : x = p
      · rw [ex, hV] at hmk
        by_cases em : m = C p + 1
        · rw [ex, em, cw_uK_s]
          exact Nat.le_refl _
        · have hm' : m ≤ C p := by omega
          rw [ex, cw_uK_o hm']
          exact Nat.le_trans (hm hp hr hm' (Nat.le_refl _)) (lV r hr).1
      · have hmx := Nat.le_trans hmk (uV x hx)
        rw [cw_uC_n ex] at hmx
        rw [cw_uK_o hmx]
        rw [hVq x hx ex] at hmk
        rcases Nat.le_total (K s d x) (K p (C p) x) with z | z
        · exact Nat.le_trans (h4 p (C p) x m r hp (Nat.le_refl _) hx hr (by omega)) (lV r hr).1
        · exact Nat.le_trans (h4 s d x m r hs hd hx hr (by omega)) (lV r hr).2
  · intro x k q j hx hk hq hxq hj hjk
    rcases cw_uC_or hk with e | ⟨e, e'⟩
    · rw [cw_uK_o e] at hjk
      rw [cw_uK_o (Nat.le_trans hjk (h1 x k q hx e hq))]
      exact h5 x k q j hx e hq hxq hj hjk
    · rw [e, e', cw_uK_s] at hjk
      have hqp : q ≠ p := fun z => hxq (e.trans z.symm)
      have hjq := Nat.le_trans hjk (uV q hq)
      rw [cw_uC_n hqp] at hjq
      rw [cw_uK_o hjq, e, e']
      have a1 := h1 q j p hq hjq hp
      omega
/-! possibly and definitely -/
def cw_P (C : Nat → Nat) (K : Nat → Nat → Nat → Nat) (g : Nat → Int32) (s : Nat) : Prop :=
  ∃ c : Nat → Nat, (∀ p, p < 3 → c p ≤ C p) ∧ (∀ p q, p < 3 → q < 3 → K q (c q) p ≤ c p) ∧ (∀ p, p < 3 → s.testBit p = true → cw_G g p (c p))
def cw_st (C : Nat → Nat) (g : Nat → Int32) (p f t : Nat) : Prop :=
  f ≤ t ∧ t ≤ C p ∧ (∀ j, f ≤ j → j ≤ t → cw_G g p j) ∧ (t < C p → ¬ cw_G g p (t + 1))
def cw_D (C : Nat → Nat) (K : Nat → Nat → Nat → Nat) (g : Nat → Int32) (s : Nat) : Prop :=
  ∃ F T : Nat → Nat, (∀ p, p < 3 → s.testBit p = true → cw_st C g p (F p) (T p)) ∧
    (∀ p q, p < 3 → q < 3 → p ≠ q → s.testBit p = true → s.testBit q = true → T p < C p → F q ≤ K p (T p + 1) q)
theorem cw_max3 (b : Nat → Bool) (v : Nat → Nat) : ∃ m, (∀ q, q < 3 → b q = true → v q ≤ m) ∧ (m = 0 ∨ ∃ q, q < 3 ∧ b q = true ∧ m = v q) := by
  have go : ∀ n, n ≤ 3 → ∃ m, (∀ q, q < n → b q = true → v q ≤ m) ∧ (m = 0 ∨ ∃ q, q < 3 ∧ b q = true ∧ m = v q) := by
    intro n
    induction n with
    | zero => exact fun _ => ⟨0, fun q hq => absurd hq (by omega), Or.inl rfl⟩
    | succ n ih =>
      intro hn
      obtain ⟨m, h1, h2⟩ := ih (by omega)
      by_cases hb : b n = true ∧ m < v n
      · refine ⟨v n, fun q hq hbq => ?_, Or.inr ⟨n, by omega, hb.1, rfl⟩⟩
        by_cases e : q = n
        · rw [e]; exact Nat.le_refl _
        · exact Nat.le_trans (h1 q (by omega) hbq) (Nat.le_of_lt hb.2)
      · refine ⟨m, fun q hq hbq => ?_, h2⟩
        by_cases e : q = n
        · rw [e] at hbq ⊢
          exact Nat.le_of_not_lt (fun z => hb ⟨hbq, z⟩)
        · exact h1 q (by omega) hbq
  exact go 3 (Nat.le_refl 3)
theorem cw_DP {C : Nat → Nat} {K : Nat → Nat → Nat → Nat} {g : Nat → Int32} {s : Nat} (h : cw_L C K) (hD : cw_D C K g s) : cw_P C K g s := by
  obtain ⟨h1, h2, h3, h4, h5⟩ := h
  obtain ⟨F, T, hs, ht⟩ := hD
  have hc : ∃ c : Nat → Nat, ∀ x, (∀ q, q < 3 → s.testBit q = true → K q (F q) x ≤ c x) ∧ (c x = 0 ∨ ∃ q, q < 3 ∧ s.testBit q = true ∧ c x = K q (F q) x) :=
    ⟨fun x => Classical.choose (cw_max3 (fun q => s.testBit q) (fun q => K q (F q) x)), fun x => Classical.choose_spec (cw_max3 (fun q => s.testBit q) (fun q => K q (F q) x))⟩
  obtain ⟨c, hc⟩ := hc
  have fC : ∀ q, q < 3 → s.testBit q = true → F q ≤ C q := fun q hq hb => Nat.le_trans (hs q hq hb).1 (hs q hq hb).2.1
  refine ⟨c, ?_, ?_, ?_⟩
  · intro p hp
    rcases (hc p).2 with e | ⟨q, hq, hb, e⟩
    · omega
    · rw [e]
      exact h1 q (F q) p hq (fC q hq hb) hp
  · intro p x hp hx
    rcases (hc x).2 with e | ⟨q, hq, hb, e⟩
    · rw [e, h3 x p hx hp]
      exact Nat.zero_le _
    · exact Nat.le_trans (h4 q (F q) x (c x) p hq (fC q hq hb) hx hp (Nat.le_of_eq e)) ((hc p).1 q hq hb)
  · intro p hp hb
    obtain ⟨s1, s2, s3, _⟩ := hs p hp hb
    refine s3 (c p) ?_ ?_
    · have := (hc p).1 p hp hb
      rw [h2 p (F p) hp (fC p hp hb)] at this
      exact this
    · rcases (hc p).2 with e | ⟨q, hq, hbq, e⟩
      · omega
      · by_cases eq : q = p
        · rw [e, eq, h2 p (F p) hp (fC p hp hb)]
          exact s1
        · refine Nat.le_of_not_lt (fun z => ?_)
          have z1 : c p ≤ C p := by rw [e]; exact h1 q (F q) p hq (fC q hq hbq) hp
          have z2 := ht p q hp hq (fun w => eq w.symm) hb hbq (by omega)
          have z3 := h5 q (F q) p (T p + 1) hq (fC q hq hbq) hp eq (by omega) (by omega)
          omega
/-! a step: C' K' g' against C K g -/
theorem cw_Pmono {C C' : Nat → Nat} {K K' : Nat → Nat → Nat → Nat} {g g' : Nat → Int32} {s : Nat} (hC : ∀ x, C x ≤ C' x) (hK : ∀ x j q, x < 3 → j ≤ C x → K' x j q = K x j q)
    (hg : ∀ x j, x < 3 → j ≤ C x → g' (9 * x + j) = g (9 * x + j)) (h : cw_P C K g s) : cw_P C' K' g' s := by
  obtain ⟨c, c1, c2, c3⟩ := h
  refine ⟨c, fun p hp => Nat.le_trans (c1 p hp) (hC p), fun p q hp hq => ?_, fun p hp hb => ?_⟩
  · rw [hK q (c q) p hq (c1 q hq)]
    exact c2 p q hp hq
  · unfold cw_G
    rw [hg p (c p) hp (c1 p hp)]
    exact c3 p hp hb
/-- if the good cut stands on old states alone -/
theorem cw_Pold {C : Nat → Nat} {K K' : Nat → Nat → Nat → Nat} {g g' : Nat → Int32} {s p : Nat} (hK : ∀ x j q, x < 3 → j ≤ C x → K' x j q = K x j q)
    (hg : ∀ x j, x < 3 → j ≤ C x → g' (9 * x + j) = g (9 * x + j)) {c : Nat → Nat} (c1 : ∀ x, x < 3 → c x ≤ cw_uC C p x) (cp : c p ≤ C p)
    (c2 : ∀ x q, x < 3 → q < 3 → K' q (c q) x ≤ c x) (c3 : ∀ x, x < 3 → s.testBit x = true → cw_G g' x (c x)) : cw_P C K g s := by
  have c0 : ∀ x, x < 3 → c x ≤ C x := by
    intro x hx
    by_cases e : x = p
    · rw [e]; exact cp
    · have := c1 x hx
      rw [cw_uC_n e] at this
      exact this
  refine ⟨c, c0, fun x q hx hq => ?_, fun x hx hb => ?_⟩
  · rw [← hK q (c q) x hq (c0 q hq)]
    exact c2 x q hx hq
  · have := c3 x hx hb
    unfold cw_G at this ⊢
    rw [← hg x (c x) hx (c0 x hx)]
    exact this
theorem cw_Pbad {C : Nat → Nat} {K : Nat → Nat → Nat → Nat} {V : Nat → Nat} {g g' : Nat → Int32} {s p : Nat} (hp : p < 3)
    (hg : ∀ x j, x < 3 → j ≤ C x → g' (9 * x + j) = g (9 * x + j)) (hb : s.testBit p = true) (hn : ¬ cw_G g' p (C p + 1)) (h : cw_P (cw_uC C p) (cw_uK K p (C p + 1) V) g' s) : cw_P C K g s := by
  obtain ⟨c, c1, c2, c3⟩ := h
  refine cw_Pold (fun x j q _ hj => cw_uK_o hj) hg c1 ?_ c2 c3
  rcases cw_uC_or (c1 p hp) with e | ⟨_, e⟩
  · exact e
  · have := c3 p hp hb
    rw [e] at this
    exact absurd this hn
theorem cw_Pother {C : Nat → Nat} {K : Nat → Nat → Nat → Nat} {V : Nat → Nat} {g g' : Nat → Int32} {s p : Nat} (hL : cw_L C K) (hp : p < 3) (hV : ∀ q, q < 3 → q ≠ p → V q = K p (C p) q)
    (hg : ∀ x j, x < 3 → j ≤ C x → g' (9 * x + j) = g (9 * x + j)) (hb : ¬ s.testBit p = true) (h : cw_P (cw_uC C p) (cw_uK K p (C p + 1) V) g' s) : cw_P C K g s := by
  obtain ⟨c, c1, c2, c3⟩ := h
  obtain ⟨h1, h2, _, _, _⟩ := hL
  rcases cw_uC_or (c1 p hp) with e | ⟨_, e⟩
  · exact cw_Pold (fun x j q _ hj => cw_uK_o hj) hg c1 e c2 c3
  · have c0 : ∀ x, x < 3 → x ≠ p → c x ≤ C x := by
      intro x hx ex
      have := c1 x hx
      rw [cw_uC_n ex] at this
      exact this
    refine ⟨fun x => if x = p then C p else c x, fun x hx => ?_, fun x q hx hq => ?_, fun x hx hbx => ?_⟩
    · by_cases ex : x = p
      · simp only [ex, if_true]; exact Nat.le_refl _
      · simp only [ex, if_false]; exact c0 x hx ex
    · by_cases eq : q = p
      · simp only [eq, if_true]
        by_cases ex : x = p
        · simp only [ex, if_true]
          rw [h2 p (C p) hp (Nat.le_refl _)]
          exact Nat.le_refl _
        · simp only [ex, if_false]
          have := c2 x p hx hp
          rw [e, cw_uK_s, hV x hx ex] at this
          exact this
      · simp only [eq, if_false]
        by_cases ex : x = p
        · simp only [ex, if_true]
          exact h1 q (c q) p hq (c0 q hq eq) hp
        · simp only [ex, if_false]
          have := c2 x q hx hq
          rw [cw_uK_o (c0 q hq eq)] at this
          exact this
    · have ex : x ≠ p := fun z => hb (z ▸ hbx)
      simp only [ex, if_false]
      have := c3 x hx hbx
      unfold cw_G at this ⊢
      rw [← hg x (c x) hx (c0 x hx ex)]
      exact this
/-- definitely reads the set's own processes alone -/
theorem cw_Dsame {C C' : Nat → Nat} {K K' : Nat → Nat → Nat → Nat} {g g' : Nat → Int32} {s : Nat} (hC : ∀ x, x < 3 → s.testBit x = true → C' x = C x)
    (hK : ∀ x j q, x < 3 → s.testBit x = true → j ≤ C x → K' x j q = K x j q) (hg : ∀ x j, x < 3 → s.testBit x = true → j ≤ C x → g' (9 * x + j) = g (9 * x + j)) (h : cw_D C K g s) : cw_D C' K' g' s := by
  obtain ⟨F, T, h1, h2⟩ := h
  refine ⟨F, T, fun p hp hb => ?_, fun p q hp hq hpq hb hbq ht => ?_⟩
  · obtain ⟨s1, s2, s3, s4⟩ := h1 p hp hb
    refine ⟨s1, by rw [hC p hp hb]; exact s2, fun j a b => ?_, fun ht => ?_⟩
    · have := s3 j a b
      unfold cw_G at this ⊢
      rw [hg p j hp hb (by omega)]
      exact this
    · rw [hC p hp hb] at ht
      have := s4 ht
      unfold cw_G at this ⊢
      rw [hg p (T p + 1) hp hb (by omega)]
      exact this
  · rw [hC p hp hb] at ht
    rw [hK p (T p + 1) q hp hb (by omega)]
    exact h2 p q hp hq hpq hb hbq ht
/-! the number of cuts -/
def cw_sum (f : Nat → Nat) : Nat → Nat
  | 0 => 0
  | n + 1 => cw_sum f n + f n
theorem cw_sum_le {f g : Nat → Nat} {n m : Nat} (hnm : n ≤ m) (h : ∀ i, i < n → f i ≤ g i) : cw_sum f n ≤ cw_sum g m := by
  induction m with
  | zero =>
    rw [show n = 0 by omega]
    exact Nat.le_refl _
  | succ m ih =>
    by_cases e : n = m + 1
    · subst e
      have a : ∀ k, k ≤ m + 1 → cw_sum f k ≤ cw_sum g k := by
        intro k
        induction k with
        | zero => exact fun _ => Nat.le_refl _
        | succ k ihk =>
          intro hk
          have a1 := ihk (by omega)
          have a2 := h k (by omega)
          show cw_sum f k + f k ≤ cw_sum g k + g k
          omega
      exact a (m + 1) (Nat.le_refl _)
    · have a1 := ih (by omega)
      show cw_sum f n ≤ cw_sum g m + g m
      omega
theorem cw_sum_lt {f g : Nat → Nat} {n m i0 : Nat} (hnm : n ≤ m) (h : ∀ i, i < n → f i ≤ g i) (hi : i0 < m) (hp : 0 < g i0) (hs : i0 < n → f i0 < g i0) : cw_sum f n < cw_sum g m := by
  induction m generalizing n with
  | zero => omega
  | succ m ih =>
    show cw_sum f n < cw_sum g m + g m
    by_cases e : n = m + 1
    · subst e
      show cw_sum f m + f m < cw_sum g m + g m
      by_cases e2 : i0 = m
      · subst e2
        have a1 := hs (by omega)
        have a2 := cw_sum_le (f := f) (g := g) (Nat.le_refl i0) (fun i hi => h i (by omega))
        omega
      · have a1 := ih (Nat.le_refl m) (fun i hi => h i (by omega)) (by omega) (fun _ => hs (by omega))
        have a2 := h m (by omega)
        omega
    · by_cases e2 : i0 = m
      · subst e2
        have a2 := cw_sum_le (f := f) (g := g) (show n ≤ i0 by omega) h
        omega
      · have a1 := ih (show n ≤ m by omega) h (by omega) hs
        omega
theorem cw_sum_b {f : Nat → Nat} {b : Nat} (h : ∀ i, f i ≤ b) : ∀ n, cw_sum f n ≤ n * b := by
  intro n
  induction n with
  | zero => exact Nat.zero_le _
  | succ n ih =>
    show cw_sum f n + f n ≤ (n + 1) * b
    have := h n
    rw [Nat.succ_mul]
    omega
theorem cw_sum_0 {f : Nat → Nat} {n : Nat} (h : ∀ i, i < n → f i = 0) : cw_sum f n = 0 := by
  induction n with
  | zero => rfl
  | succ n ih =>
    show cw_sum f n + f n = 0
    rw [ih (fun i hi => h i (by omega)), h n (by omega)]
def cw_c3 (K : Nat → Nat → Nat → Nat) (i j k : Nat) : Nat := if K 0 i 2 ≤ k ∧ K 1 j 2 ≤ k ∧ K 2 k 0 ≤ i ∧ K 2 k 1 ≤ j then 1 else 0
def cw_c2 (C : Nat → Nat) (K : Nat → Nat → Nat → Nat) (i j : Nat) : Nat := if K 0 i 1 ≤ j ∧ K 1 j 0 ≤ i then cw_sum (cw_c3 K i j) (C 2 + 1) else 0
def cw_c1 (C : Nat → Nat) (K : Nat → Nat → Nat → Nat) (i : Nat) : Nat := cw_sum (cw_c2 C K i) (C 1 + 1)
def cw_c0 (C : Nat → Nat) (K : Nat → Nat → Nat → Nat) : Nat := cw_sum (cw_c1 C K) (C 0 + 1)
theorem cw_c3_b (K : Nat → Nat → Nat → Nat) (i j k : Nat) : cw_c3 K i j k ≤ 1 := by
  unfold cw_c3
  split <;> omega
theorem cw_c3s_b {C : Nat → Nat} (K : Nat → Nat → Nat → Nat) (hC : C 2 ≤ 8) (i j : Nat) : cw_sum (cw_c3 K i j) (C 2 + 1) ≤ 9 :=
  Nat.le_trans (cw_sum_b (cw_c3_b K i j) (C 2 + 1)) (by omega)
theorem cw_c2_b {C : Nat → Nat} (K : Nat → Nat → Nat → Nat) (hC : C 2 ≤ 8) (i j : Nat) : cw_c2 C K i j ≤ 9 := by
  unfold cw_c2
  split
  · exact cw_c3s_b K hC i j
  · omega
theorem cw_sum_b' {f : Nat → Nat} {b n N : Nat} (h : ∀ i, f i ≤ b) (hn : n ≤ N) : cw_sum f n ≤ N * b :=
  Nat.le_trans (cw_sum_b h n) (Nat.mul_le_mul_right b hn)
theorem cw_c1_b {C : Nat → Nat} (K : Nat → Nat → Nat → Nat) (hC : C 2 ≤ 8) (hC1 : C 1 ≤ 8) (i : Nat) : cw_c1 C K i ≤ 81 :=
  cw_sum_b' (N := 9) (cw_c2_b K hC i) (by omega)
theorem cw_c0_b {C : Nat → Nat} (K : Nat → Nat → Nat → Nat) (hC : C 2 ≤ 8) (hC1 : C 1 ≤ 8) (hC0 : C 0 ≤ 8) : cw_c0 C K ≤ 729 :=
  cw_sum_b' (N := 9) (cw_c1_b K hC hC1) (by omega)
theorem cw_grow {C : Nat → Nat} {K K' : Nat → Nat → Nat → Nat} {p : Nat} (hp : p < 3) (hL : cw_L (cw_uC C p) K') (hK : ∀ x j q, x < 3 → j ≤ C x → K' x j q = K x j q) :
    cw_c0 C K < cw_c0 (cw_uC C p) K' := by
  obtain ⟨h1, _⟩ := hL
  have e3 : ∀ i j k, i < C 0 + 1 → j < C 1 + 1 → k < C 2 + 1 → cw_c3 K' i j k = cw_c3 K i j k := by
    intro i j k hi hj hk
    unfold cw_c3
    rw [hK 0 i 2 (by omega) (by omega), hK 1 j 2 (by omega) (by omega), hK 2 k 0 (by omega) (by omega), hK 2 k 1 (by omega) (by omega)]
  have l3 : ∀ i j, i < C 0 + 1 → j < C 1 + 1 → cw_sum (cw_c3 K i j) (C 2 + 1) ≤ cw_sum (cw_c3 K' i j) (cw_uC C p 2 + 1) :=
    fun i j hi hj => cw_sum_le (Nat.succ_le_succ cw_uC_le) (fun k hk => Nat.le_of_eq (e3 i j k hi hj hk).symm)
  have l2 : ∀ i j, i < C 0 + 1 → j < C 1 + 1 → cw_c2 C K i j ≤ cw_c2 (cw_uC C p) K' i j := by
    intro i j hi hj
    unfold cw_c2
    rw [hK 0 i 1 (by omega) (by omega), hK 1 j 0 (by omega) (by omega)]
    split
    · exact l3 i j hi hj
    · exact Nat.le_refl _
  have l1 : ∀ i, i < C 0 + 1 → cw_c1 C K i ≤ cw_c1 (cw_uC C p) K' i := fun i hi => cw_sum_le (Nat.succ_le_succ cw_uC_le) (fun j hj => l2 i j hi hj)
  have t3 : cw_c3 K' (cw_uC C p 0) (cw_uC C p 1) (cw_uC C p 2) = 1 := by
    unfold cw_c3
    exact if_pos ⟨h1 0 _ 2 (by omega) (Nat.le_refl _) (by omega), h1 1 _ 2 (by omega) (Nat.le_refl _) (by omega), h1 2 _ 0 (by omega) (Nat.le_refl _) (by omega), h1 2 _ 1 (by omega) (Nat.le_refl _) (by omega)⟩
  have t2 : cw_c2 (cw_uC C p) K' (cw_uC C p 0) (cw_uC C p 1) = cw_sum (cw_c3 K' (cw_uC C p 0) (cw_uC C p 1)) (cw_uC C p 2 + 1) :=
    if_pos ⟨h1 0 _ 1 (by omega) (Nat.le_refl _) (by omega), h1 1 _ 0 (by omega) (Nat.le_refl _) (by omega)⟩
  have z : ∀ (f : Nat → Nat) (n i : Nat), i < n → 0 < f i → 0 < cw_sum f n := fun f n i hi hf =>
    cw_sum_lt (f := f) (g := f) (n := 0) (m := n) (i0 := i) (Nat.zero_le _) (fun k hk => absurd hk (by omega)) hi hf (fun q => absurd q (by omega))
  have p2 : 0 < cw_c2 (cw_uC C p) K' (cw_uC C p 0) (cw_uC C p 1) := by
    rw [t2]
    exact z _ _ (cw_uC C p 2) (by omega) (by rw [t3]; omega)
  refine cw_sum_lt (i0 := cw_uC C p 0) (Nat.succ_le_succ cw_uC_le) l1 (by omega) (z _ _ (cw_uC C p 1) (by omega) p2) (fun i0 => ?_)
  refine cw_sum_lt (i0 := cw_uC C p 1) (Nat.succ_le_succ cw_uC_le) (fun j hj => l2 _ j i0 hj) (by omega) p2 (fun i1 => ?_)
  have hp0 : p ≠ 0 := by
    intro e
    subst e
    rw [cw_uC_s] at i0
    omega
  have hp1 : p ≠ 1 := by
    intro e
    subst e
    rw [cw_uC_s] at i1
    omega
  have hp2 : p = 2 := by omega
  rw [t2]
  have a : cw_c2 C K (cw_uC C p 0) (cw_uC C p 1) ≤ cw_sum (cw_c3 K (cw_uC C p 0) (cw_uC C p 1)) (C 2 + 1) := by
    unfold cw_c2
    split
    · exact Nat.le_refl _
    · exact Nat.zero_le _
  refine Nat.lt_of_le_of_lt a (cw_sum_lt (i0 := cw_uC C p 2) (Nat.succ_le_succ cw_uC_le) (fun k hk => Nat.le_of_eq (e3 _ _ k i0 i1 hk).symm) (by omega) (by rw [t3]; omega) (fun i2 => ?_))
  subst hp2
  rw [cw_uC_s] at i2
  omega
end
section
/-! index sums -/
theorem cw_ix (p k q : Nat) : ((27 * nI p) + (3 * nI k)) + nI q = nI (27 * p + 3 * k + q) := by
  rw [show (27 : Int32) = nI 27 from rfl, show (3 : Int32) = nI 3 from rfl, pk_mul, pk_mul, nI_add, nI_add]
theorem cw_ix3 (p k q : Nat) : (((27 * nI p) + (3 * nI (k + 1))) - 3) + nI q = nI (27 * p + 3 * k + q) := by
  rw [show (27 : Int32) = nI 27 from rfl, show (3 : Int32) = nI 3 from rfl, pk_mul, pk_mul, nI_add, pk_sub (by omega), nI_add]
  exact congrArg nI (by omega)
theorem cw_ix9 (p k : Nat) : (9 * nI p) + nI k = nI (9 * p + k) := by
  rw [show (9 : Int32) = nI 9 from rfl, pk_mul, nI_add]
theorem cw_inj {x j q p k i : Nat} (hj : j ≤ 8) (hq : q < 3) (hk : k ≤ 8) (hi : i < 3) (h : 27 * x + 3 * j + q = 27 * p + 3 * k + i) : x = p ∧ j = k ∧ q = i := by
  have h1 : (27 * x + 3 * j + q) / 27 = x := by omega
  have h2 : (27 * p + 3 * k + i) / 27 = p := by omega
  have h3 : x = p := by rw [← h1, h, h2]
  have h4 : (3 * j + q) / 3 = j := by omega
  have h5 : (3 * k + i) / 3 = k := by omega
  have h6 : 3 * j + q = 3 * k + i := by omega
  have h7 : j = k := by rw [← h4, h6, h5]
  exact ⟨h3, h7, by omega⟩
/-! walks of the small methods -/
theorem cw_isp {post : Int32 → Prop} {p : Nat} (hp : p < 3) (H : post 1) : wpX_isProcess post () (nI p) :=
  br_f (nI_pos (by omega)) (br_f (nI_nlt (a := 2) (b := p) (by omega) (by omega)) H)
theorem cw_isq {post : Int32 → Prop} {x : Int32} (H0 : post 0) (H1 : ∀ p, p < 3 → x = nI p → post 1) : wpX_isProcess post () x := by
  by_cases h : x < 0
  · exact br_t h H0
  · refine br_f h ?_
    by_cases h2 : 2 < x
    · exact br_t h2 H0
    · refine br_f h2 ?_
      obtain ⟨j, hj, e⟩ := nI_of2 (M := 2) (n := 2) (by decide) h (Int32.not_lt.mp h2)
      exact H1 j (by omega) e
theorem cw_kb {post : Int32 → Prop} {m : Int32} {a1 a2 a3 a4 a5 a6 a7 a8 a9 : Nat → Int32} {C : Nat → Nat} {K : Nat → Nat → Nat → Nat} (hR : cw_R C K a1 a3) {p k q : Nat} (hp : p < 3) (hk : k ≤ 8) (hq : q < 3)
    (H : post (nI (K p k q))) : wpX_knownBy post (m, a1, a2, a3, a4, a5, a6, a7, a8, a9) (nI p) (nI k) (nI q) := by
  unfold wpX_knownBy
  dsimp only
  rw [cw_ix, nI_clamp (by omega), (hR.2 p k q hp hk hq).2]
  exact ⟨vp_in_nI (by omega) (by omega), H⟩
theorem cw_a1 {C : Nat → Nat} {K : Nat → Nat → Nat → Nat} {a1 a3 : Nat → Int32} (hR : cw_R C K a1 a3) {p : Nat} (hp : p < 3) : a1 (nI p).toNatClampNeg = nI (C p) := by
  rw [nI_clamp (by omega)]
  exact (hR.1 p hp).2
theorem cw_u1 {C : Nat → Nat} {K K' : Nat → Nat → Nat → Nat} {a1 a3 a3' : Nat → Int32} (hR : cw_R C K a1 a3) {p : Nat} (hc : C p < 8)
    (h3 : ∀ x k q, x < 3 → k ≤ 8 → q < 3 → K' x k q ≤ 8 ∧ a3' (27 * x + 3 * k + q) = nI (K' x k q)) : cw_R (cw_uC C p) K' (upd a1 p (nI (C p + 1))) a3' := by
  refine ⟨fun x hx => ?_, h3⟩
  by_cases e : x = p
  · rw [e, cw_uC_s, pk_us]
    exact ⟨by omega, rfl⟩
  · rw [cw_uC_n e, pk_un e]
    exact hR.1 x hx
/-- the new row of a step -/
def cw_V (C : Nat → Nat) (K : Nat → Nat → Nat → Nat) (p : Nat) : Nat → Nat := fun q => if q = p then C p + 1 else K p (C p) q
theorem cw_V_s {C : Nat → Nat} {K : Nat → Nat → Nat → Nat} {p : Nat} : cw_V C K p p = C p + 1 := by unfold cw_V; rw [if_pos rfl]
theorem cw_V_n {C : Nat → Nat} {K : Nat → Nat → Nat → Nat} {p q : Nat} (h : q ≠ p) : cw_V C K p q = K p (C p) q := by unfold cw_V; rw [if_neg h]
theorem cw_adv {post : St1 → Prop} {m p1 : Int32} {a1 a2 a3 a4 a5 a6 a7 a8 a9 : Nat → Int32} {C : Nat → Nat} {K : Nat → Nat → Nat → Nat} {p : Nat} (hR : cw_R C K a1 a3) (hp : p < 3) (hc : C p < 8)
    (H : ∀ a3', cw_R (cw_uC C p) (cw_uK K p (C p + 1) (cw_V C K p)) (upd a1 p (nI (C p + 1))) a3' →
      post (m, upd a1 p (nI (C p + 1)), upd a2 (9 * p + (C p + 1)) (vp_nar .boolean p1), a3', a4, a5, a6, a7, a8, a9)) :
    wpX_advance post (m, a1, a2, a3, a4, a5, a6, a7, a8, a9) (nI p) p1 := by
  have E1 : a1 (nI p).toNatClampNeg + 1 = nI (C p + 1) := by rw [cw_a1 hR hp, nI_1]
  have E2 : upd a1 (nI p).toNatClampNeg (nI (C p + 1)) = upd a1 p (nI (C p + 1)) := by rw [nI_clamp (by omega)]
  have E3 : upd a2 ((9 * nI p) + nI (C p + 1)).toNatClampNeg (vp_nar .boolean p1) = upd a2 (9 * p + (C p + 1)) (vp_nar .boolean p1) := by rw [cw_ix9, nI_clamp (by omega)]
  have E0 : vp_in ((9 * nI p) + nI (C p + 1)) 27 := by rw [cw_ix9]; exact vp_in_nI (by omega) (by omega)
  unfold wpX_advance
  refine ⟨vp_in_nI hp (by omega), nm_r E1 ⟨vp_in_nI hp (by omega), nm_r E2 ⟨E0, nm_r E3 ?_⟩⟩⟩
  refine pk_loop (fun n i s => wX_advance_31 post (nI p) (nI (C p + 1)) m n (nI i) (upd a1 p (nI (C p + 1))) (upd a2 (9 * p + (C p + 1)) (vp_nar .boolean p1)) s a4 a5 a6 a7 a8 a9)
    (fun i s => ∀ x j q, x < 3 → j ≤ 8 → q < 3 → s (27 * x + 3 * j + q) = nI (if x = p ∧ j = C p + 1 ∧ q < i then K p (C p) q else K x j q)) 3 0 a3 (by omega) ?_ ?_ ?_
  · intro x j q hx hj hq
    rw [if_neg (by omega)]
    exact (hR.2 x j q hx hj hq).2
  · intro n s h
    have E4 : upd s (((27 * nI p) + (3 * nI (C p + 1))) + nI p).toNatClampNeg (nI (C p + 1)) = upd s (27 * p + 3 * (C p + 1) + p) (nI (C p + 1)) := by rw [cw_ix, nI_clamp (by omega)]
    have E5 : vp_in (((27 * nI p) + (3 * nI (C p + 1))) + nI p) 81 := by rw [cw_ix]; exact vp_in_nI (by omega) (by omega)
    refine pk_le 3 3 (fun _ => ⟨E5, nm_r E4 (H _ (cw_u1 hR hc ?_))⟩) (fun z => absurd z (by omega))
    intro x j q hx hj hq
    by_cases e : x = p ∧ j = C p + 1
    · obtain ⟨ex, ej⟩ := e
      rw [ex, ej, cw_uK_s]
      by_cases eq : q = p
      · rw [eq, cw_V_s, pk_us]
        exact ⟨by omega, rfl⟩
      · rw [cw_V_n eq, pk_un (by omega)]
        have := h p (C p + 1) q hp (by omega) hq
        rw [if_pos ⟨rfl, rfl, hq⟩] at this
        exact ⟨(hR.2 p (C p) q hp (by omega) hq).1, this⟩
    · rw [cw_uK_n e, pk_un (fun z => e ⟨(cw_inj hj hq (by omega) hp z).1, (cw_inj hj hq (by omega) hp z).2.1⟩)]
      have := h x j q hx hj hq
      rw [if_neg (fun z => e ⟨z.1, z.2.1⟩)] at this
      exact ⟨(hR.2 x j q hx hj hq).1, this⟩
  · intro n i s hi h hw
    have E6 : s (((((27 * nI p) + (3 * nI (C p + 1))) - 3) + nI i).toNatClampNeg) = nI (K p (C p) i) := by
      rw [cw_ix3, nI_clamp (by omega), h p (C p) i hp (by omega) hi, if_neg (by omega)]
    have E4 : upd s (((27 * nI p) + (3 * nI (C p + 1))) + nI i).toNatClampNeg (s (((((27 * nI p) + (3 * nI (C p + 1))) - 3) + nI i).toNatClampNeg)) = upd s (27 * p + 3 * (C p + 1) + i) (nI (K p (C p) i)) := by
      rw [E6, cw_ix, nI_clamp (by omega)]
    have E5 : vp_in (((27 * nI p) + (3 * nI (C p + 1))) + nI i) 81 := by rw [cw_ix]; exact vp_in_nI (by omega) (by omega)
    have E7 : vp_in ((((27 * nI p) + (3 * nI (C p + 1))) - 3) + nI i) 81 := by rw [cw_ix3]; exact vp_in_nI (by omega) (by omega)
    refine pk_le 3 i (fun z => absurd z (by omega)) (fun _ => ⟨E7, E5, nm_r E4 (nm_r (nI_1 i) (hw _ ?_))⟩)
    intro x j q hx hj hq
    by_cases e : x = p ∧ j = C p + 1 ∧ q = i
    · obtain ⟨ex, ej, eq⟩ := e
      rw [ex, ej, eq, pk_us, if_pos ⟨rfl, rfl, by omega⟩]
    · rw [pk_un (fun z => e (cw_inj hj hq (by omega) hi z)), h x j q hx hj hq]
      by_cases e2 : x = p ∧ j = C p + 1 ∧ q < i
      · rw [if_pos e2, if_pos ⟨e2.1, e2.2.1, by omega⟩]
      · rw [if_neg e2, if_neg (by omega)]
/-! the law's invariant -/
def cw_M (C : Nat → Nat) (m : Int32) (a4 a5 : Nat → Int32) : Prop :=
  ∃ (M : Nat) (S D : Nat → Nat), m = nI M ∧ M ≤ C 0 + C 1 + C 2 ∧ ∀ i, i < M → S i < 3 ∧ D i ≤ C (S i) ∧ a4 i = nI (S i) ∧ a5 i = nI (D i)
def cw_I (m : Int32) (a1 a3 a4 a5 : Nat → Int32) : Prop :=
  ∃ (C : Nat → Nat) (K : Nat → Nat → Nat → Nat), cw_R C K a1 a3 ∧ cw_L C K ∧ cw_M C m a4 a5
theorem cw_Lstep {C : Nat → Nat} {K : Nat → Nat → Nat → Nat} {p : Nat} (h : cw_L C K) (hp : p < 3) : cw_L (cw_uC C p) (cw_uK K p (C p + 1) (cw_V C K p)) :=
  cw_Ladv h hp hp (Nat.le_refl (C p)) cw_V_s (fun q _ e => by rw [cw_V_n e]; omega)
theorem cw_uC3 {C : Nat → Nat} {p : Nat} (hp : p < 3) : cw_uC C p 0 + cw_uC C p 1 + cw_uC C p 2 = C 0 + C 1 + C 2 + 1 := by
  rcases (show p = 0 ∨ p = 1 ∨ p = 2 by omega) with e | e | e <;> subst e <;> unfold cw_uC <;> simp <;> omega
theorem cw_Mup {C : Nat → Nat} {m : Int32} {a4 a5 : Nat → Int32} {p : Nat} (hp : p < 3) (h : cw_M C m a4 a5) : cw_M (cw_uC C p) m a4 a5 := by
  obtain ⟨M, S, D, h1, h2, h3⟩ := h
  refine ⟨M, S, D, h1, by rw [cw_uC3 hp]; omega, fun i hi => ?_⟩
  obtain ⟨x1, x2, x3, x4⟩ := h3 i hi
  exact ⟨x1, Nat.le_trans x2 cw_uC_le, x3, x4⟩
theorem cw_step {post : Int32 → St1 → Prop} {m p1 : Int32} {a1 a2 a3 a4 a5 a6 a7 a8 a9 : Nat → Int32} {C : Nat → Nat} {K : Nat → Nat → Nat → Nat} {p : Nat} (hR : cw_R C K a1 a3) (hp : p < 3)
    (H0 : ¬ C p < 8 → post (-1) (m, a1, a2, a3, a4, a5, a6, a7, a8, a9))
    (H : C p < 8 → ∀ a3', cw_R (cw_uC C p) (cw_uK K p (C p + 1) (cw_V C K p)) (upd a1 p (nI (C p + 1))) a3' →
      post (nI (C p + 1)) (m, upd a1 p (nI (C p + 1)), upd a2 (9 * p + (C p + 1)) (vp_nar .boolean p1), a3', a4, a5, a6, a7, a8, a9)) :
    wpX_step post (m, a1, a2, a3, a4, a5, a6, a7, a8, a9) (nI p) p1 := by
  unfold wpX_step
  have hc := (hR.1 p hp).1
  refine cw_isp hp (br_f (by decide) ⟨vp_in_nI hp (by omega), ?_⟩)
  refine pk_lt (C p) 8 (fun z => cw_adv hR hp z (fun a3' hR' => ⟨vp_in_nI hp (by omega), ?_⟩)) (fun z => H0 (by omega)) (cw_a1 hR hp)
  have e : upd a1 p (nI (C p + 1)) (nI p).toNatClampNeg = nI (C p + 1) := by rw [nI_clamp (by omega), pk_us]
  rw [e]
  exact H z a3' hR'
theorem cw_events {post : Int32 → Prop} {m : Int32} {a1 a2 a3 a4 a5 a6 a7 a8 a9 : Nat → Int32} {C : Nat → Nat} {K : Nat → Nat → Nat → Nat} {p : Nat} (hR : cw_R C K a1 a3) (hp : p < 3)
    (H : post (nI (C p))) : wpX_events post (m, a1, a2, a3, a4, a5, a6, a7, a8, a9) (nI p) := by
  unfold wpX_events
  refine cw_isp hp (br_f (by decide) ⟨vp_in_nI hp (by omega), ?_⟩)
  rw [cw_a1 hR hp]
  exact H
theorem cw_knows {post : Int32 → Prop} {m : Int32} {a1 a2 a3 a4 a5 a6 a7 a8 a9 : Nat → Int32} {C : Nat → Nat} {K : Nat → Nat → Nat → Nat} {p k q : Nat} (hR : cw_R C K a1 a3) (hp : p < 3) (hq : q < 3) (hk : k ≤ C p)
    (H : post (nI (K p k q))) : wpX_knows post (m, a1, a2, a3, a4, a5, a6, a7, a8, a9) (nI p) (nI k) (nI q) := by
  have hc := (hR.1 p hp).1
  unfold wpX_knows
  refine cw_isp hp (br_f (by decide) (cw_isp hq (br_f (by decide) (br_f (nI_pos (by omega)) ⟨vp_in_nI hp (by omega), ?_⟩))))
  exact pk_le k (C p) (fun z => cw_kb hR hp (by omega) hq H) (fun z => absurd z (by omega)) rfl (cw_a1 hR hp)
/-! send, receive, start -/
theorem cw_send {post : Int32 → St1 → Prop} {m x z : Int32} {a1 a2 a3 a4 a5 a6 a7 a8 a9 : Nat → Int32} (h : cw_I m a1 a3 a4 a5)
    (H : ∀ r m' b1 b2 b3 b4 b5 b6, cw_I m' b1 b3 b4 b5 → post r (m', b1, b2, b3, b4, b5, b6, a7, a8, a9)) : wpX_send post (m, a1, a2, a3, a4, a5, a6, a7, a8, a9) x z := by
  have h0 := h
  obtain ⟨C, K, hR, hL, M, S, D, hM, hMC, hSD⟩ := h
  unfold wpX_send
  refine cw_isq (br_t rfl (H _ _ _ _ _ _ _ _ h0)) (fun p hp ex => br_f (by decide) ?_)
  subst ex
  have hc := (hR.1 p hp).1
  refine ⟨vp_in_nI hp (by omega), pk_lt (C p) 8 (fun z => ?_) (fun z => H _ _ _ _ _ _ _ _ h0) (cw_a1 hR hp)⟩
  have h3 := cw_uC3 (C := C) hp
  have c0 := (hR.1 0 (by omega)).1
  have c1 := (hR.1 1 (by omega)).1
  have c2 := (hR.1 2 (by omega)).1
  have hM24 : M < 24 := by
    rcases (show p = 0 ∨ p = 1 ∨ p = 2 by omega) with e | e | e <;> subst e <;> omega
  refine cw_adv hR hp z (fun a3' hR' => ?_)
  subst hM
  have V : vp_in (nI M) 24 := vp_in_nI hM24 (by omega)
  have E1 : upd a4 (nI M).toNatClampNeg (nI p) = upd a4 M (nI p) := by rw [nI_clamp (by omega)]
  have E2 : upd a5 (nI M).toNatClampNeg (upd a1 p (nI (C p + 1)) (nI p).toNatClampNeg) = upd a5 M (nI (C p + 1)) := by rw [nI_clamp (by omega), nI_clamp (by omega), pk_us]
  refine ⟨V, nm_r E1 ⟨vp_in_nI hp (by omega), V, nm_r E2 ⟨V, nm_e (nm_r (nI_1 M) (H _ _ _ _ _ _ _ _ ?_))⟩⟩⟩
  refine ⟨_, _, hR', cw_Lstep hL hp, M + 1, (fun i => if i = M then p else S i), (fun i => if i = M then C p + 1 else D i), rfl, by omega, fun i hi => ?_⟩
  by_cases e : i = M
  · simp only [e, if_true, pk_us]
    exact ⟨hp, by rw [cw_uC_s]; exact Nat.le_refl _, trivial, trivial⟩
  · simp only [e, if_false]
    rw [pk_un e, pk_un e]
    obtain ⟨x1, x2, x3, x4⟩ := hSD i (by omega)
    exact ⟨x1, Nat.le_trans x2 cw_uC_le, x3, x4⟩
/-- the new row of a receive -/
def cw_W (C : Nat → Nat) (K : Nat → Nat → Nat → Nat) (p s d : Nat) : Nat → Nat := fun q => if q = p then C p + 1 else max (K p (C p) q) (K s d q)
theorem cw_W_s {C : Nat → Nat} {K : Nat → Nat → Nat → Nat} {p s d : Nat} : cw_W C K p s d p = C p + 1 := by unfold cw_W; rw [if_pos rfl]
theorem cw_W_n {C : Nat → Nat} {K : Nat → Nat → Nat → Nat} {p s d q : Nat} (h : q ≠ p) : cw_W C K p s d q = max (K p (C p) q) (K s d q) := by unfold cw_W; rw [if_neg h]
theorem cw_rloop {post : Int32 → St1 → Prop} {m : Int32} {b1 b2 b3 b4 b5 b6 b7 b8 b9 : Nat → Int32} {C' : Nat → Nat} {K' : Nat → Nat → Nat → Nat} {p i s d : Nat} (hR : cw_R C' K' b1 b3) (hp : p < 3) (hi : i < 24)
    (hs : s < 3) (hd : d ≤ 8) (hsp : s ≠ p) (e4 : b4 i = nI s) (e5 : b5 i = nI d)
    (H : ∀ b3', (∀ x j q, x < 3 → j ≤ 8 → q < 3 → b3' (27 * x + 3 * j + q) = nI (if x = p ∧ j = C' p then max (K' p (C' p) q) (K' s d q) else K' x j q)) → post (nI (C' p)) (m, b1, b2, b3', b4, b5, b6, b7, b8, b9)) :
    ∃ n, wX_receive_79 post (nI p) (nI i) m n 0 b1 b2 b3 b4 b5 b6 b7 b8 b9 := by
  have hc := (hR.1 p hp).1
  have V : vp_in (nI i) 24 := vp_in_nI hi (by omega)
  refine pk_loop (fun n t u => wX_receive_79 post (nI p) (nI i) m n (nI t) b1 b2 u b4 b5 b6 b7 b8 b9)
    (fun t u => ∀ x j q, x < 3 → j ≤ 8 → q < 3 → u (27 * x + 3 * j + q) = nI (if x = p ∧ j = C' p ∧ q < t then max (K' p (C' p) q) (K' s d q) else K' x j q)) 3 0 b3 (by omega) ?_ ?_ ?_
  · intro x j q hx hj hq
    rw [if_neg (by omega)]
    exact (hR.2 x j q hx hj hq).2
  · intro n u h
    refine pk_le 3 3 (fun _ => ⟨vp_in_nI hp (by omega), ?_⟩) (fun z => absurd z (by omega))
    rw [cw_a1 hR hp]
    refine H u (fun x j q hx hj hq => ?_)
    rw [h x j q hx hj hq]
    by_cases e : x = p ∧ j = C' p
    · rw [if_pos e, if_pos ⟨e.1, e.2, hq⟩]
    · rw [if_neg e, if_neg (fun z => e ⟨z.1, z.2.1⟩)]
  · intro n t u ht h hw
    refine pk_le 3 t (fun z => absurd z (by omega)) (fun _ => ⟨V, V, ?_⟩)
    rw [nI_clamp (show i < 2 ^ 31 by omega), e4, e5]
    have hRu : cw_R C' (fun x j q => if x = p ∧ j = C' p ∧ q < t then max (K' p (C' p) q) (K' s d q) else K' x j q) b1 u := by
      refine ⟨hR.1, fun x j q hx hj hq => ⟨?_, h x j q hx hj hq⟩⟩
      have k1 := (hR.2 p (C' p) q hp hc hq).1
      have k2 := (hR.2 s d q hs hd hq).1
      have k3 := (hR.2 x j q hx hj hq).1
      show (if x = p ∧ j = C' p ∧ q < t then max (K' p (C' p) q) (K' s d q) else K' x j q) ≤ 8
      split <;> omega
    refine cw_kb hRu hs hd ht ?_
    rw [if_neg (fun z => hsp z.1)]
    have E1 : ((27 * nI p) + (3 * (b1 (nI p).toNatClampNeg))) + nI t = nI (27 * p + 3 * C' p + t) := by rw [cw_a1 hR hp, cw_ix]
    refine ⟨vp_in_nI hp (by omega), nm_r E1 ?_⟩
    have V2 : vp_in (nI (27 * p + 3 * C' p + t)) 81 := vp_in_nI (by omega) (by omega)
    have E2 : u (nI (27 * p + 3 * C' p + t)).toNatClampNeg = nI (K' p (C' p) t) := by
      rw [nI_clamp (by omega), h p (C' p) t hp hc ht, if_neg (by omega)]
    have k1 := (hR.2 p (C' p) t hp hc ht).1
    have k2 := (hR.2 s d t hs hd ht).1
    have go : ∀ w : Nat, w = max (K' p (C' p) t) (K' s d t) → ∀ x j q, x < 3 → j ≤ 8 → q < 3 → upd u (27 * p + 3 * C' p + t) (nI w) (27 * x + 3 * j + q) = nI (if x = p ∧ j = C' p ∧ q < t + 1 then max (K' p (C' p) q) (K' s d q) else K' x j q) := by
      intro w ew x j q hx hj hq
      by_cases e : x = p ∧ j = C' p ∧ q = t
      · obtain ⟨ex, ej, eq⟩ := e
        rw [ex, ej, eq, pk_us, if_pos ⟨rfl, rfl, by omega⟩, ew]
      · rw [pk_un (fun z => e (cw_inj hj hq hc ht z)), h x j q hx hj hq]
        by_cases e2 : x = p ∧ j = C' p ∧ q < t
        · rw [if_pos e2, if_pos ⟨e2.1, e2.2.1, by omega⟩]
        · rw [if_neg e2, if_neg (by omega)]
    refine ⟨V2, pk_le (K' s d t) (K' p (C' p) t) (fun z => ⟨V2, V2, ?_⟩) (fun z => ⟨V2, ?_⟩) rfl E2⟩
    · refine nm_r (show _ = upd u (27 * p + 3 * C' p + t) (nI (K' p (C' p) t)) by rw [E2, nI_clamp (by omega)]) (nm_r (nI_1 t) (hw _ (go _ (by omega))))
    · refine nm_r (show _ = upd u (27 * p + 3 * C' p + t) (nI (K' s d t)) by rw [nI_clamp (by omega)]) (nm_r (nI_1 t) (hw _ (go _ (by omega))))
theorem cw_rec17 {post : Int32 → St1 → Prop} {m x y z z0 : Int32} {a1 a2 a3 a4 a5 a6 a7 a8 a9 : Nat → Int32} (h : cw_I m a1 a3 a4 a5) (hy : ¬ z0 = 0 → ¬ y < 0 ∧ ¬ m ≤ y)
    (H : ∀ r m' b1 b2 b3 b4 b5 b6, cw_I m' b1 b3 b4 b5 → post r (m', b1, b2, b3, b4, b5, b6, a7, a8, a9)) : wX_receive_17 post x y z z0 m a1 a2 a3 a4 a5 a6 a7 a8 a9 := by
  have h0 := h
  obtain ⟨C, K, hR, hL, hM'⟩ := h
  have hM0 := hM'
  obtain ⟨M, S, D, hM, hMC, hSD⟩ := hM'
  unfold wX_receive_17
  refine cw_isq (br_t rfl (H _ _ _ _ _ _ _ _ h0)) (fun p hp ex => br_f (by decide) ?_)
  subst ex
  have hc := (hR.1 p hp).1
  refine ⟨vp_in_nI hp (by omega), pk_le 8 (C p) (fun _ => H _ _ _ _ _ _ _ _ h0) (fun hc8 => ?_) rfl (cw_a1 hR hp)⟩
  refine br_c (fun _ => H _ _ _ _ _ _ _ _ h0) (fun hz => ?_)
  obtain ⟨hy0, hym⟩ := hy hz
  obtain ⟨i, hi, ey⟩ := nI_of hy0
  have c0 := (hR.1 0 (by omega)).1
  have c1 := (hR.1 1 (by omega)).1
  have c2 := (hR.1 2 (by omega)).1
  have hiM : i < M := by
    rw [hM, ey] at hym
    exact Nat.lt_of_not_le (fun w => hym (nI_le w (by omega)))
  subst ey
  obtain ⟨x1, x2, x3, x4⟩ := hSD i hiM
  have V : vp_in (nI i) 24 := vp_in_nI (by omega) (by omega)
  refine ⟨V, br_c (fun _ => ⟨V, br_c (fun _ => H _ _ _ _ _ _ _ _ h0) (fun hne => ⟨V, nm_e ?_⟩)⟩) (fun _ => H _ _ _ _ _ _ _ _ h0)⟩
  have hSp : S i ≠ p := by
    intro e
    rw [nI_clamp (by omega), x3, e] at hne
    exact hne rfl
  have cS := (hR.1 (S i) x1).1
  refine cw_adv hR hp (by omega) (fun a3' hR' => ?_)
  refine cw_rloop hR' hp (show i < 24 by omega) x1 (show D i ≤ 8 by omega) hSp x3 x4 (fun b3' hb => H _ _ _ _ _ _ _ _ ?_)
  refine ⟨cw_uC C p, cw_uK K p (C p + 1) (cw_W C K p (S i) (D i)), cw_u1 hR (by omega) ?_, cw_Ladv hL hp x1 x2 cw_W_s (fun q _ e => cw_W_n e), cw_Mup hp hM0⟩
  intro x j q hx hj hq
  have k1 := (hR.2 p (C p) q hp (by omega) hq).1
  have k2 := (hR.2 (S i) (D i) q x1 (by omega) hq).1
  have k3 := (hR.2 x j q hx hj hq).1
  have k4 := hL.1 (S i) (D i) p x1 x2 hp
  rw [hb x j q hx hj hq, cw_uC_s, cw_uK_s, cw_uK_o x2]
  by_cases e : x = p ∧ j = C p + 1
  · rw [if_pos e, e.1, e.2, cw_uK_s]
    by_cases eq : q = p
    · rw [eq, cw_V_s, cw_W_s]
      exact ⟨by omega, congrArg nI (by omega)⟩
    · rw [cw_V_n eq, cw_W_n eq]
      exact ⟨by omega, rfl⟩
  · rw [if_neg e, cw_uK_n e, cw_uK_n e]
    exact ⟨k3, rfl⟩
theorem cw_receive {post : Int32 → St1 → Prop} {m x y z : Int32} {a1 a2 a3 a4 a5 a6 a7 a8 a9 : Nat → Int32} (h : cw_I m a1 a3 a4 a5)
    (H : ∀ r m' b1 b2 b3 b4 b5 b6, cw_I m' b1 b3 b4 b5 → post r (m', b1, b2, b3, b4, b5, b6, a7, a8, a9)) : wpX_receive post (m, a1, a2, a3, a4, a5, a6, a7, a8, a9) x y z := by
  unfold wpX_receive
  refine br_c (fun _ => cw_rec17 h (fun w => absurd rfl w) H) (fun h1 => br_c (fun _ => cw_rec17 h (fun w => absurd rfl w) H) (fun h2 => cw_rec17 h (fun _ => ⟨h1, h2⟩) H))
theorem cw_start {post : Int32 → St1 → Prop} {m x z : Int32} {a1 a2 a3 a4 a5 a6 a7 a8 a9 : Nat → Int32} (h : cw_I m a1 a3 a4 a5)
    (H : ∀ r m' b1 b2 b3 b4 b5 b6, cw_I m' b1 b3 b4 b5 → post r (m', b1, b2, b3, b4, b5, b6, a7, a8, a9)) : wpX_start post (m, a1, a2, a3, a4, a5, a6, a7, a8, a9) x z := by
  unfold wpX_start
  refine cw_isq (br_t rfl (H _ _ _ _ _ _ _ _ h)) (fun p hp ex => br_f (by decide) ?_)
  subst ex
  refine ⟨?_, nm_e (H _ _ _ _ _ _ _ _ h)⟩
  have := cw_ix9 p 0
  rw [nI_0, Int32.add_zero] at this
  rw [this]
  exact vp_in_nI (by omega) (by omega)
end
section
/-! thirdStates and cuts -/
theorem cw_third {post : Int32 → Prop} {m : Int32} {a1 a2 a3 a4 a5 a6 a7 a8 a9 : Nat → Int32} {C : Nat → Nat} {K : Nat → Nat → Nat → Nat} {i j : Nat} (hR : cw_R C K a1 a3) (hL : cw_L C K) (hi : i ≤ C 0) (hj : j ≤ C 1)
    (H : post (nI (cw_sum (cw_c3 K i j) (C 2 + 1)))) : wpX_thirdStates post (m, a1, a2, a3, a4, a5, a6, a7, a8, a9) (nI i) (nI j) := by
  have c0 := (hR.1 0 (by omega)).1
  have c1 := (hR.1 1 (by omega)).1
  have c2 := (hR.1 2 (by omega)).1
  have e2 : a1 2 = nI (C 2) := (hR.1 2 (by omega)).2
  have ki := hL.1 0 i 2 (by omega) hi (by omega)
  have kj := hL.1 1 j 2 (by omega) hj (by omega)
  have lp : ∀ low, low ≤ C 2 + 1 → (∀ k, k < low → cw_c3 K i j k = 0) → (∀ k, low ≤ k → K 0 i 2 ≤ k ∧ K 1 j 2 ≤ k) → ∃ n, wX_thirdStates_38 post (nI i) (nI j) m a1 a2 a3 a4 a5 a6 a7 a8 a9 n 0 (nI low) := by
    intro low hlow hz hlo
    refine pk_loop (fun n t v => wX_thirdStates_38 post (nI i) (nI j) m a1 a2 a3 a4 a5 a6 a7 a8 a9 n v (nI t)) (fun t v => low ≤ t ∧ v = nI (cw_sum (cw_c3 K i j) t)) (C 2 + 1) low 0 hlow ?_ ?_ ?_
    · exact ⟨Nat.le_refl _, by rw [cw_sum_0 hz]; rfl⟩
    · intro n v h
      refine pk_lt (C 2) (C 2 + 1) (fun _ => ?_) (fun z => absurd z (by omega)) e2
      rw [h.2]
      exact H
    · intro n t v ht h hw
      obtain ⟨h1, h2⟩ := h
      subst h2
      have hl := hlo t h1
      have x0 : cw_sum (cw_c3 K i j) (t + 1) = cw_sum (cw_c3 K i j) t + cw_c3 K i j t := rfl
      have go : ∀ b, cw_c3 K i j t = b → nI (cw_sum (cw_c3 K i j) t) + nI b = nI (cw_sum (cw_c3 K i j) (t + 1)) := by
        intro b eb
        rw [nI_add, x0, eb]
      refine pk_lt (C 2) t (fun z => absurd z (by omega)) (fun _ => ?_) e2
      refine cw_kb (p := 2) (q := 0) hR (by omega) (by omega) (by omega) ?_
      have k0 := (hR.2 2 t 0 (by omega) (by omega) (by omega)).1
      have k1 := (hR.2 2 t 1 (by omega) (by omega) (by omega)).1
      refine pk_lt i (K 2 t 0) (fun z => ?_) (fun z => ?_)
      · exact nm_r (go 0 (if_neg (by omega))) (nm_r (nI_1 t) (hw _ ⟨by omega, rfl⟩))
      · refine cw_kb (p := 2) (q := 1) hR (by omega) (by omega) (by omega) ?_
        refine pk_lt j (K 2 t 1) (fun w => ?_) (fun w => ?_)
        · exact nm_r (go 0 (if_neg (by omega))) (nm_r (nI_1 t) (hw _ ⟨by omega, rfl⟩))
        · exact nm_r (go 1 (if_pos ⟨hl.1, hl.2, z, w⟩)) (nm_r (nI_1 t) (hw _ ⟨by omega, rfl⟩))
  unfold wpX_thirdStates
  refine cw_kb (p := 0) (q := 2) hR (by omega) (by omega) (by omega) (cw_kb (p := 1) (q := 2) hR (by omega) (by omega) (by omega) ?_)
  refine pk_le (K 0 i 2) (K 1 j 2) (fun z => lp _ (by omega) (fun k hk => if_neg (by omega)) (fun k hk => by omega)) (fun z => lp _ (by omega) (fun k hk => if_neg (by omega)) (fun k hk => by omega))
theorem cw_cuts16 {post : Int32 → Prop} {J4 : Int32 → Int32 → Prop} {m : Int32} {a1 a2 a3 a4 a5 a6 a7 a8 a9 : Nat → Int32} {C : Nat → Nat} {K : Nat → Nat → Nat → Nat} {i v : Nat} (hR : cw_R C K a1 a3) (hL : cw_L C K) (hi : i ≤ C 0)
    (H : J4 (nI (v + cw_c1 C K i)) (nI (i + 1))) : ∃ n, wX_cuts_16 post J4 (nI i) m a1 a2 a3 a4 a5 a6 a7 a8 a9 n (nI v) 0 := by
  have c0 := (hR.1 0 (by omega)).1
  have c1 := (hR.1 1 (by omega)).1
  have c2 := (hR.1 2 (by omega)).1
  have e1 : a1 1 = nI (C 1) := (hR.1 1 (by omega)).2
  refine pk_loop (fun n t w => wX_cuts_16 post J4 (nI i) m a1 a2 a3 a4 a5 a6 a7 a8 a9 n w (nI t)) (fun t w => w = nI (v + cw_sum (cw_c2 C K i) t)) (C 1 + 1) 0 (nI v) (by omega) rfl ?_ ?_
  · intro n w h
    refine pk_lt (C 1) (C 1 + 1) (fun _ => nm_r (nI_1 i) ?_) (fun z => absurd z (by omega)) e1
    rw [h]
    exact H
  · intro n t w ht h hw
    subst h
    have x0 : cw_sum (cw_c2 C K i) (t + 1) = cw_sum (cw_c2 C K i) t + cw_c2 C K i t := rfl
    have k0 := (hR.2 0 i 1 (by omega) (by omega) (by omega)).1
    have k1 := (hR.2 1 t 0 (by omega) (by omega) (by omega)).1
    have z0 : ¬ (K 0 i 1 ≤ t ∧ K 1 t 0 ≤ i) → wX_cuts_16 post J4 (nI i) m a1 a2 a3 a4 a5 a6 a7 a8 a9 n (nI (v + cw_sum (cw_c2 C K i) t)) (nI (t + 1)) := by
      intro hn
      refine hw _ ?_
      have : cw_c2 C K i t = 0 := if_neg hn
      show _ = nI (v + cw_sum (cw_c2 C K i) (t + 1))
      rw [x0, this, Nat.add_zero]
    refine pk_lt (C 1) t (fun z => absurd z (by omega)) (fun _ => ?_) e1
    refine cw_kb (p := 0) (q := 1) hR (by omega) (by omega) (by omega) ?_
    refine pk_lt t (K 0 i 1) (fun z => nm_r (nI_1 t) (z0 (by omega))) (fun z => ?_)
    refine cw_kb (p := 1) (q := 0) hR (by omega) (by omega) (by omega) ?_
    refine pk_lt i (K 1 t 0) (fun z => nm_r (nI_1 t) (z0 (by omega))) (fun y => ?_)
    refine cw_third hR hL hi (by omega) ?_
    have : cw_c2 C K i t = cw_sum (cw_c3 K i t) (C 2 + 1) := if_pos ⟨z, y⟩
    rw [← this]
    refine nm_r (nI_add _ _) (nm_r (nI_1 t) (hw _ ?_))
    show _ = nI (v + cw_sum (cw_c2 C K i) (t + 1))
    rw [x0, Nat.add_assoc]
theorem cw_cuts {post : Int32 → Prop} {m : Int32} {a1 a2 a3 a4 a5 a6 a7 a8 a9 : Nat → Int32} {C : Nat → Nat} {K : Nat → Nat → Nat → Nat} (hR : cw_R C K a1 a3) (hL : cw_L C K)
    (H : post (nI (cw_c0 C K))) : wpX_cuts post (m, a1, a2, a3, a4, a5, a6, a7, a8, a9) := by
  have c0 := (hR.1 0 (by omega)).1
  have e0 : a1 0 = nI (C 0) := (hR.1 0 (by omega)).2
  unfold wpX_cuts
  refine pk_loop (fun n t w => wX_cuts_4 post m a1 a2 a3 a4 a5 a6 a7 a8 a9 n w (nI t)) (fun t w => w = nI (cw_sum (cw_c1 C K) t)) (C 0 + 1) 0 0 (by omega) rfl ?_ ?_
  · intro n w h
    refine pk_lt (C 0) (C 0 + 1) (fun _ => ?_) (fun z => absurd z (by omega)) e0
    rw [h]
    exact H
  · intro n t w ht h hw
    subst h
    refine pk_lt (C 0) t (fun z => absurd z (by omega)) (fun _ => ?_) e0
    exact cw_cuts16 hR hL (by omega) (hw _ rfl)
end
section
/-! the set's bits -/
theorem cw_bitU : ∀ s, s < 8 → ∀ p, p < 3 → ((((nI s).toUInt32 >>> ((nI p).toUInt32 &&& Int32.toUInt32 31)).toInt32 &&& 1) = 0 ↔ ¬ s.testBit p = true) := by decide +kernel
/-! neededState -/
theorem cw_need51 {post : Int32 → Prop} {m : Int32} {a1 a2 a3 a4 a5 a6 a7 a8 a9 : Nat → Int32} {C : Nat → Nat} {K : Nat → Nat → Nat → Nat} {p s t : Nat} (hR : cw_R C K a1 a3) (hp : p < 3) (hs : s < 8) (ht : t ≤ 8)
    (H : ∀ k, t ≤ k → k ≤ 9 → (k ≤ C p → s.testBit p = true → cw_G a2 p k) → (∀ x, t ≤ x → x ≤ C p → (s.testBit p = true → cw_G a2 p x) → k ≤ x) → post (nI k)) :
    ∃ n, wX_neededState_51 post (nI p) (nI s) m a1 a2 a3 a4 a5 a6 a7 a8 a9 n (nI t) := by
  have hc := (hR.1 p hp).1
  refine loop_m (fun n k => wX_neededState_51 post (nI p) (nI s) m a1 a2 a3 a4 a5 a6 a7 a8 a9 n (nI k)) (fun k => t ≤ k ∧ k ≤ 9 ∧ ∀ x, t ≤ x → x ≤ C p → (s.testBit p = true → cw_G a2 p x) → k ≤ x) (fun k => 10 - k) ?_ t
    ⟨Nat.le_refl _, by omega, fun x hx _ _ => hx⟩
  intro n k h hw
  obtain ⟨h1, h2, h3⟩ := h
  refine ⟨vp_in_nI hp (by omega), pk_lt (C p) k (fun z => H k h1 h2 (fun w => absurd w (by omega)) h3) (fun z => ?_) (cw_a1 hR hp)⟩
  refine ek_if (cw_bitU s hs p hp) (fun b => H k h1 h2 (fun _ w => absurd w b) h3) (fun b => ?_)
  have b' : s.testBit p = true := Classical.byContradiction b
  have V : vp_in ((9 * nI p) + nI k) 27 := by rw [cw_ix9]; exact vp_in_nI (by omega) (by omega)
  refine ⟨V, ?_⟩
  rw [cw_ix9, nI_clamp (by omega)]
  refine br_c (fun e => nm_r (nI_1 k) (hw (k + 1) ⟨by omega, by omega, fun x x1 x2 x3 => ?_⟩ (by omega))) (fun e => H k h1 h2 (fun _ _ => e) h3)
  have y1 := h3 x x1 x2 x3
  have y2 : x ≠ k := by
    intro ex
    subst ex
    exact x3 b' e
  omega
theorem cw_need {post : Int32 → Prop} {m : Int32} {a1 a2 a3 a4 a5 a6 a7 a8 a9 : Nat → Int32} {C : Nat → Nat} {K : Nat → Nat → Nat → Nat} {p s : Nat} {c : Nat → Nat} (hR : cw_R C K a1 a3) (hp : p < 3) (hs : s < 8)
    (h7 : ∀ q, q < 3 → a7 q = nI (c q) ∧ c q ≤ 8)
    (H : ∀ k, k ≤ 9 → c p ≤ k → (∀ q, q < 3 → K q (c q) p ≤ k) → (k ≤ C p → s.testBit p = true → cw_G a2 p k) →
      (∀ x, x ≤ C p → c p ≤ x → (∀ q, q < 3 → K q (c q) p ≤ x) → (s.testBit p = true → cw_G a2 p x) → k ≤ x) → post (nI k)) :
    wpX_neededState post (m, a1, a2, a3, a4, a5, a6, a7, a8, a9) (nI p) (nI s) := by
  have E1 : a7 (nI p).toNatClampNeg = nI (c p) := by rw [nI_clamp (by omega)]; exact (h7 p hp).1
  unfold wpX_neededState
  refine ⟨vp_in_nI hp (by omega), nm_r E1 ?_⟩
  refine pk_loop (fun n i v => wX_neededState_10 post (nI p) (nI s) m a1 a2 a3 a4 a5 a6 a7 a8 a9 n (nI v) (nI i))
    (fun i v => c p ≤ v ∧ v ≤ 8 ∧ (∀ q, q < i → K q (c q) p ≤ v) ∧ (∀ x, c p ≤ x → (∀ q, q < 3 → K q (c q) p ≤ x) → v ≤ x)) 3 0 (c p) (by omega) ?_ ?_ ?_
  · exact ⟨Nat.le_refl _, (h7 p hp).2, fun q hq => absurd hq (by omega), fun x hx _ => hx⟩
  · intro n v h
    obtain ⟨h1, h2, h3, h4⟩ := h
    refine pk_le 3 3 (fun _ => cw_need51 hR hp hs h2 (fun k k1 k2 k3 k4 => ?_)) (fun z => absurd z (by omega))
    exact H k k2 (by omega) (fun q hq => Nat.le_trans (h3 q hq) k1) k3 (fun x x1 x2 x3 x4 => k4 x (h4 x x2 x3) x1 x4)
  · intro n i v hi h hw
    obtain ⟨h1, h2, h3, h4⟩ := h
    refine pk_le 3 i (fun z => absurd z (by omega)) (fun _ => ⟨vp_in_nI hi (by omega), ?_⟩)
    rw [nI_clamp (show i < 2 ^ 31 by omega), (h7 i hi).1]
    refine cw_kb hR hi (h7 i hi).2 hp ?_
    have k8 := (hR.2 i (c i) p hi (h7 i hi).2 hp).1
    refine pk_le (K i (c i) p) v (fun z => nm_r (nI_1 i) (hw v ⟨h1, h2, ?_, h4⟩)) (fun z => nm_r (nI_1 i) (hw _ ⟨by omega, k8, ?_, fun x _ x2 => x2 i hi⟩))
    · intro q hq
      by_cases e : q = i
      · rw [e]; exact z
      · exact h3 q (by omega)
    · intro q hq
      by_cases e : q = i
      · rw [e]; exact Nat.le_refl _
      · have := h3 q (by omega)
        omega
/-! findLeast -/
def cw_LB (C : Nat → Nat) (K : Nat → Nat → Nat → Nat) (g : Nat → Int32) (s : Nat) (c : Nat → Nat) : Prop :=
  ∀ d : Nat → Nat, (∀ p, p < 3 → d p ≤ C p) → (∀ p q, p < 3 → q < 3 → K q (d q) p ≤ d p) → (∀ p, p < 3 → s.testBit p = true → cw_G g p (d p)) → ∀ q, q < 3 → c q ≤ d q
def cw_F24 (C : Nat → Nat) (K : Nat → Nat → Nat → Nat) (g : Nat → Int32) (s r : Nat) (x2 : Int32) (a7 : Nat → Int32) : Prop :=
  ∃ c : Nat → Nat, (∀ q, q < 3 → a7 q = nI (c q) ∧ c q ≤ C q) ∧ cw_LB C K g s c ∧
    ((x2 = 0 ∧ ∀ p, p < 3 → (∀ q, q < 3 → K q (c q) p ≤ c p) ∧ (s.testBit p = true → cw_G g p (c p))) ∨ (x2 = 1 ∧ r ≤ c 0 + c 1 + c 2))
def cw_F39 (C : Nat → Nat) (K : Nat → Nat → Nat → Nat) (g : Nat → Int32) (s r i : Nat) (x2 : Int32) (a7 : Nat → Int32) : Prop :=
  ∃ c : Nat → Nat, (∀ q, q < 3 → a7 q = nI (c q) ∧ c q ≤ C q) ∧ cw_LB C K g s c ∧
    ((x2 = 0 ∧ r ≤ c 0 + c 1 + c 2 ∧ ∀ p, p < i → (∀ q, q < 3 → K q (c q) p ≤ c p) ∧ (s.testBit p = true → cw_G g p (c p))) ∨ (x2 = 1 ∧ r + 1 ≤ c 0 + c 1 + c 2))
theorem cw_f89 {post : Int32 → St1 → Prop} {J24 J39 : Int32 → Int32 → (Nat → Int32) → (Nat → Int32) → (Nat → Int32) → (Nat → Int32) → (Nat → Int32) → (Nat → Int32) → (Nat → Int32) → (Nat → Int32) → (Nat → Int32) → Prop}
    {x1 x3 z0 m : Int32} {a1 a2 a3 a4 a5 a6 a7 a8 a9 : Nat → Int32} {i k : Nat} (hi : i < 3) (H : J39 z0 (nI (i + 1)) a1 a2 a3 a4 a5 a6 (upd a7 i (nI k)) a8 a9) :
    wX_findLeast_89 post J24 J39 x1 x3 (nI i) (nI k) z0 m a1 a2 a3 a4 a5 a6 a7 a8 a9 :=
  ⟨vp_in_nI hi (by omega), nm_r (show _ = upd a7 i (nI k) by rw [nI_clamp (by omega)]) (nm_r (nI_1 i) H)⟩
/-- one process of a round goes on to k -/
theorem cw_sum3 {c : Nat → Nat} {i k : Nat} (hi : i < 3) : (if 0 = i then k else c 0) + (if 1 = i then k else c 1) + (if 2 = i then k else c 2) + c i = c 0 + c 1 + c 2 + k := by
  rcases (show i = 0 ∨ i = 1 ∨ i = 2 by omega) with e | e | e <;> subst e <;> simp <;> omega
theorem cw_f39 {post : Int32 → St1 → Prop} {J24 : Int32 → Int32 → (Nat → Int32) → (Nat → Int32) → (Nat → Int32) → (Nat → Int32) → (Nat → Int32) → (Nat → Int32) → (Nat → Int32) → (Nat → Int32) → (Nat → Int32) → Prop}
    {m : Int32} {a1 a2 a3 a4 a5 a6 a7 a8 a9 : Nat → Int32} {C : Nat → Nat} {K : Nat → Nat → Nat → Nat} {s r : Nat} (hR : cw_R C K a1 a3) (hL : cw_L C K) (hs : s < 8) (hr : cw_F39 C K a2 s r 0 0 a7)
    (H0 : ¬ cw_P C K a2 s → ∀ b7, post 0 (m, a1, a2, a3, a4, a5, a6, b7, a8, a9)) (H1 : ∀ x2 b7, cw_F24 C K a2 s (r + 1) x2 b7 → J24 x2 (nI (r + 1)) a1 a2 a3 a4 a5 a6 b7 a8 a9) :
    ∃ n, wX_findLeast_39 post J24 (nI s) (nI r) m n 0 0 a1 a2 a3 a4 a5 a6 a7 a8 a9 := by
  refine pk_loop (fun n i (t : Int32 × (Nat → Int32)) => wX_findLeast_39 post J24 (nI s) (nI r) m n t.1 (nI i) a1 a2 a3 a4 a5 a6 t.2 a8 a9) (fun i t => cw_F39 C K a2 s r i t.1 t.2) 3 0 (0, a7) (by omega) hr ?_ ?_
  · intro n t h
    refine pk_le 3 3 (fun _ => nm_r (nI_1 r) (H1 _ _ ?_)) (fun z => absurd z (by omega))
    obtain ⟨c, h1, h2, h3⟩ := h
    refine ⟨c, h1, h2, ?_⟩
    rcases h3 with ⟨e, _, f⟩ | ⟨e, f⟩
    · exact Or.inl ⟨e, f⟩
    · exact Or.inr ⟨e, f⟩
  · intro n i t hi h hw
    obtain ⟨x2, b7⟩ := t
    obtain ⟨c, h1, h2, h3⟩ := h
    dsimp only at h1 h3
    have h8 : ∀ q, q < 3 → b7 q = nI (c q) ∧ c q ≤ 8 := fun q hq => ⟨(h1 q hq).1, Nat.le_trans (h1 q hq).2 (hR.1 q hq).1⟩
    refine pk_le 3 i (fun z => absurd z (by omega)) (fun _ => ?_)
    refine cw_need hR hi hs h8 (fun k k1 k2 k3 k4 k5 => ⟨vp_in_nI hi (by omega), ?_⟩)
    have hCi := (hR.1 i hi).1
    have lb : ∀ d : Nat → Nat, (∀ p, p < 3 → d p ≤ C p) → (∀ p q, p < 3 → q < 3 → K q (d q) p ≤ d p) → (∀ p, p < 3 → s.testBit p = true → cw_G a2 p (d p)) → k ≤ d i := by
      intro d d1 d2 d3
      have d4 := h2 d d1 d2 d3
      exact k5 (d i) (d1 i hi) (d4 i hi) (fun q hq => Nat.le_trans (cw_mono hL hq hi (d4 q hq) (d1 q hq)) (d2 i q hi hq)) (d3 i hi)
    refine pk_le k (C i) (fun kC => ?_) (fun kC => H0 (fun hP => ?_) _) rfl (cw_a1 hR hi)
    rotate_left
    · obtain ⟨d, d1, d2, d3⟩ := hP
      have a1 := lb d d1 d2 d3
      have a2 := d1 i hi
      omega
    -- the new cut
    have n1 : ∀ q, q < 3 → upd b7 i (nI k) q = nI (if q = i then k else c q) ∧ (if q = i then k else c q) ≤ C q := by
      intro q hq
      by_cases e : q = i
      · subst e
        rw [pk_us, if_pos rfl]
        exact ⟨rfl, kC⟩
      · rw [pk_un e, if_neg e]
        exact h1 q hq
    have n2 : cw_LB C K a2 s (fun q => if q = i then k else c q) := by
      intro d d1 d2 d3 q hq
      show (if q = i then k else c q) ≤ d q
      by_cases e : q = i
      · subst e
        rw [if_pos rfl]
        exact lb d d1 d2 d3
      · rw [if_neg e]
        exact h2 d d1 d2 d3 q hq
    have n3 := cw_sum3 (c := c) (k := k) hi
    have up : r + 1 ≤ (if 0 = i then k else c 0) + (if 1 = i then k else c 1) + (if 2 = i then k else c 2) → wX_findLeast_39 post J24 (nI s) (nI r) m n 1 (nI (i + 1)) a1 a2 a3 a4 a5 a6 (upd b7 i (nI k)) a8 a9 :=
      fun hle => hw (1, upd b7 i (nI k)) ⟨_, n1, n2, Or.inr ⟨rfl, hle⟩⟩
    rcases h3 with ⟨e, f1, f2⟩ | ⟨e, f1⟩
    · refine br_t e ⟨vp_in_nI hi (by omega), ?_⟩
      have e7 : b7 (nI i).toNatClampNeg = nI (c i) := by rw [nI_clamp (by omega)]; exact (h1 i hi).1
      refine pk_le k (c i) (fun z => cw_f89 hi ?_) (fun z => cw_f89 hi (up (by omega))) rfl e7 (by omega) (by have := (h8 i hi).2; omega)
      have ek : k = c i := by omega
      refine hw (0, upd b7 i (nI k)) ⟨c, fun q hq => ?_, h2, Or.inl ⟨rfl, f1, fun p hp => ?_⟩⟩
      · show upd b7 i (nI k) q = nI (c q) ∧ c q ≤ C q
        have := n1 q hq
        by_cases eq : q = i
        · rw [if_pos eq, ek] at this
          rw [ek, eq]
          rw [eq] at this
          exact this
        · rw [if_neg eq] at this
          exact this
      · by_cases ep : p = i
        · rw [ep]
          rw [ek] at k3 k4
          exact ⟨k3, k4 (h1 i hi).2⟩
        · exact f2 p (by omega)
    · exact br_f (show ¬ x2 = (0 : Int32) by rw [e]; decide) (cw_f89 hi (up (by omega)))
theorem cw_find {post : Int32 → St1 → Prop} {m : Int32} {a1 a2 a3 a4 a5 a6 a7 a8 a9 : Nat → Int32} {C : Nat → Nat} {K : Nat → Nat → Nat → Nat} {s : Nat} (hR : cw_R C K a1 a3) (hL : cw_L C K) (hs : s < 8)
    (H0 : ¬ cw_P C K a2 s → ∀ b7, post 0 (m, a1, a2, a3, a4, a5, a6, b7, a8, a9)) (H1 : cw_P C K a2 s → ∀ b7, post 1 (m, a1, a2, a3, a4, a5, a6, b7, a8, a9)) :
    wpX_findLeast post (m, a1, a2, a3, a4, a5, a6, a7, a8, a9) (nI s) := by
  have hC0 := (hR.1 0 (by omega)).1
  have hC1 := (hR.1 1 (by omega)).1
  have hC2 := (hR.1 2 (by omega)).1
  unfold wpX_findLeast
  refine pk_loop (fun n i b7 => wX_findLeast_2 post (nI s) m n (nI i) a1 a2 a3 a4 a5 a6 b7 a8 a9) (fun i b7 => ∀ q, q < i → b7 q = nI 0) 3 0 a7 (by omega) (fun q hq => absurd hq (by omega)) ?_ ?_
  · intro n b7 h
    refine pk_le 3 3 (fun _ => ?_) (fun z => absurd z (by omega))
    refine loop_m (fun n (t : Nat × Int32 × (Nat → Int32)) => wX_findLeast_24 post (nI s) m n t.2.1 (nI t.1) a1 a2 a3 a4 a5 a6 t.2.2 a8 a9) (fun t => t.1 ≤ 30 ∧ cw_F24 C K a2 s t.1 t.2.1 t.2.2) (fun t => 31 - t.1) ?_ (0, 1, b7) ?_
    · intro n t ht hw
      obtain ⟨r, x2, c7⟩ := t
      obtain ⟨hr, c, h1, h2, h3⟩ := ht
      dsimp only at hr h1 h3
      have b0 := (h1 0 (by omega)).2
      have b1 := (h1 1 (by omega)).2
      have b2 := (h1 2 (by omega)).2
      have yes : x2 = 0 → post 1 (m, a1, a2, a3, a4, a5, a6, c7, a8, a9) := by
        intro e
        rcases h3 with ⟨_, f⟩ | ⟨e1, f⟩
        · exact H1 ⟨c, fun p hp => (h1 p hp).2, fun p q hp hq => (f p hp).1 q hq, fun p hp => (f p hp).2⟩ _
        · rw [e] at e1
          exact absurd e1 (by decide)
      refine pk_le 30 r (fun z => yes ?_) (fun z => br_c yes (fun e => ?_))
      · rcases h3 with ⟨e, _⟩ | ⟨_, f⟩
        · exact e
        · omega
      · rcases h3 with ⟨e1, _⟩ | ⟨_, f⟩
        · exact absurd e1 e
        · exact cw_f39 hR hL hs ⟨c, h1, h2, Or.inl ⟨rfl, f, fun p hp => absurd hp (by omega)⟩⟩ H0 (fun y2 d7 hd => hw (r + 1, y2, d7) ⟨by show r + 1 ≤ 30; omega, hd⟩ (by show 31 - (r + 1) < 31 - r; omega))
    · exact ⟨by show 0 ≤ 30; omega, fun _ => 0, fun q hq => ⟨h q hq, Nat.zero_le _⟩, fun d _ _ _ q _ => Nat.zero_le _, Or.inr ⟨rfl, Nat.zero_le _⟩⟩
  · intro n i b7 hi h hw
    refine pk_le 3 i (fun z => absurd z (by omega)) (fun _ => ⟨vp_in_nI hi (by omega), nm_r (show _ = upd b7 i (nI 0) by rw [nI_clamp (by omega)]; rfl) (nm_r (nI_1 i) (hw _ (fun q hq => ?_)))⟩)
    by_cases e : q = i
    · rw [e, pk_us]
    · rw [pk_un e]
      exact h q (by omega)
/-! truth as 0 or 1 -/
noncomputable def cw_b (P : Prop) : Nat := @ite Nat P (Classical.propDecidable P) 1 0
theorem cw_b_t {P : Prop} (h : P) : cw_b P = 1 := by unfold cw_b; exact if_pos h
theorem cw_b_f {P : Prop} (h : ¬ P) : cw_b P = 0 := by unfold cw_b; exact if_neg h
theorem cw_possibly {post : Int32 → St1 → Prop} {m : Int32} {a1 a2 a3 a4 a5 a6 a7 a8 a9 : Nat → Int32} {C : Nat → Nat} {K : Nat → Nat → Nat → Nat} {s : Nat} (hR : cw_R C K a1 a3) (hL : cw_L C K) (h1 : 1 ≤ s) (hs : s < 8)
    (H : ∀ b7, post (nI (cw_b (cw_P C K a2 s))) (m, a1, a2, a3, a4, a5, a6, b7, a8, a9)) : wpX_possibly post (m, a1, a2, a3, a4, a5, a6, a7, a8, a9) (nI s) := by
  unfold wpX_possibly
  refine pk_lt s 1 (fun z => absurd z (by omega)) (fun _ => pk_le s 7 (fun _ => ?_) (fun z => absurd z (by omega)))
  refine cw_find hR hL hs (fun hP b7 => br_t rfl ?_) (fun hP b7 => br_f (by decide) ?_)
  · have := H b7
    rw [cw_b_f hP] at this
    exact this
  · have := H b7
    rw [cw_b_t hP] at this
    exact this
end
section
/-! nextStretch -/
theorem cw_ns51 {post : Int32 → St1 → Prop} {m : Int32} {a1 a2 a3 a4 a5 a6 a7 a8 a9 : Nat → Int32} {C : Nat → Nat} {K : Nat → Nat → Nat → Nat} {p f : Nat} (hR : cw_R C K a1 a3) (hp : p < 3) (hf : f ≤ C p) (hg : cw_G a2 p f)
    (H : ∀ t, cw_st C a2 p f t → post 1 (m, a1, a2, a3, a4, a5, a6, a7, a8, upd a9 p (nI t))) : ∃ n, wX_nextStretch_51 post (nI p) m a1 a2 a3 a4 a5 a6 a7 a8 a9 n (nI f) := by
  have hc := (hR.1 p hp).1
  refine loop_m (fun n k => wX_nextStretch_51 post (nI p) m a1 a2 a3 a4 a5 a6 a7 a8 a9 n (nI k)) (fun k => f ≤ k ∧ k ≤ C p ∧ ∀ j, f ≤ j → j ≤ k → cw_G a2 p j) (fun k => C p - k) ?_ f
    ⟨Nat.le_refl _, hf, fun j h1 h2 => by rw [show j = f by omega]; exact hg⟩
  intro n k h hw
  obtain ⟨h1, h2, h3⟩ := h
  have V : vp_in (nI p) 3 := vp_in_nI hp (by omega)
  have E : upd a9 (nI p).toNatClampNeg (nI k) = upd a9 p (nI k) := by rw [nI_clamp (by omega)]
  refine ⟨V, pk_le (C p) k (fun z => ⟨V, nm_r E (H k ⟨h1, h2, h3, fun w => absurd w (by omega)⟩)⟩) (fun z => ?_) (cw_a1 hR hp)⟩
  have V2 : vp_in (((9 * nI p) + nI k) + 1) 27 := by rw [cw_ix9, nI_1]; exact vp_in_nI (by omega) (by omega)
  refine ⟨V2, ?_⟩
  rw [cw_ix9, nI_1, nI_clamp (show 9 * p + k + 1 < 2 ^ 31 by omega)]
  refine br_c (fun e => ⟨V, nm_r E (H k ⟨h1, h2, h3, fun _ w => w e⟩)⟩) (fun e => nm_r (nI_1 k) (hw (k + 1) ⟨by omega, by omega, fun j j1 j2 => ?_⟩ (by omega)))
  by_cases ej : j = k + 1
  · rw [ej]
    exact e
  · exact h3 j j1 (by omega)
theorem cw_next {post : Int32 → St1 → Prop} {m : Int32} {a1 a2 a3 a4 a5 a6 a7 a8 a9 : Nat → Int32} {C : Nat → Nat} {K : Nat → Nat → Nat → Nat} {p st : Nat} (hR : cw_R C K a1 a3) (hp : p < 3) (hst : st ≤ C p + 1)
    (H0 : (∀ j, st ≤ j → j ≤ C p → ¬ cw_G a2 p j) → post 0 (m, a1, a2, a3, a4, a5, a6, a7, a8, a9))
    (H1 : ∀ f t, st ≤ f → cw_st C a2 p f t → (∀ j, st ≤ j → j < f → ¬ cw_G a2 p j) → post 1 (m, a1, a2, a3, a4, a5, a6, a7, upd a8 p (nI f), upd a9 p (nI t))) :
    wpX_nextStretch post (m, a1, a2, a3, a4, a5, a6, a7, a8, a9) (nI p) (nI st) := by
  have hc := (hR.1 p hp).1
  have V : vp_in (nI p) 3 := vp_in_nI hp (by omega)
  unfold wpX_nextStretch
  refine loop_m (fun n k => wX_nextStretch_2 post (nI p) m a1 a2 a3 a4 a5 a6 a7 a8 a9 n (nI k)) (fun k => st ≤ k ∧ k ≤ C p + 1 ∧ ∀ j, st ≤ j → j < k → ¬ cw_G a2 p j) (fun k => C p + 1 - k) ?_ st
    ⟨Nat.le_refl _, hst, fun j h1 h2 => absurd h1 (by omega)⟩
  intro n k h hw
  obtain ⟨h1, h2, h3⟩ := h
  have E : upd a8 (nI p).toNatClampNeg (nI k) = upd a8 p (nI k) := by rw [nI_clamp (by omega)]
  refine ⟨V, pk_lt (C p) k (fun z => ⟨V, pk_le k (C p) (fun w => absurd w (by omega)) (fun _ => H0 (fun j j1 j2 => h3 j j1 (by omega))) rfl (cw_a1 hR hp)⟩) (fun z => ?_) (cw_a1 hR hp)⟩
  have V2 : vp_in ((9 * nI p) + nI k) 27 := by rw [cw_ix9]; exact vp_in_nI (by omega) (by omega)
  refine ⟨V2, ?_⟩
  rw [cw_ix9, nI_clamp (show 9 * p + k < 2 ^ 31 by omega)]
  refine br_c (fun e => nm_r (nI_1 k) (hw (k + 1) ⟨by omega, by omega, fun j j1 j2 => ?_⟩ (by omega))) (fun e => ⟨V, pk_le k (C p) (fun w => ⟨V, nm_r E (cw_ns51 hR hp w e (fun t ht => H1 k t h1 ht h3))⟩) (fun w => absurd w (by omega)) rfl (cw_a1 hR hp)⟩)
  by_cases ej : j = k
  · rw [ej]
    exact fun w => w e
  · exact h3 j j1 (by omega)
/-! tooEarly -/
def cw_ok (C : Nat → Nat) (K : Nat → Nat → Nat → Nat) (s : Nat) (F T : Nat → Nat) (p q : Nat) : Prop :=
  p ≠ q → s.testBit p = true → s.testBit q = true → T p < C p → F q ≤ K p (T p + 1) q
theorem cw_early9 {post J2 : Int32 → Prop} {m : Int32} {a1 a2 a3 a4 a5 a6 a7 a8 a9 : Nat → Int32} {C : Nat → Nat} {K : Nat → Nat → Nat → Nat} {s p : Nat} {F T : Nat → Nat} (hR : cw_R C K a1 a3) (hs : s < 8) (hp : p < 3)
    (h89 : ∀ p, p < 3 → s.testBit p = true → a8 p = nI (F p) ∧ a9 p = nI (T p) ∧ F p ≤ 8 ∧ T p ≤ 8)
    (H1 : ∀ q, q < 3 → p ≠ q → s.testBit p = true → s.testBit q = true → T p < C p → K p (T p + 1) q < F q → post (nI p))
    (H0 : (∀ q, q < 3 → cw_ok C K s F T p q) → J2 (nI (p + 1))) : ∃ n, wX_tooEarly_9 post J2 (nI s) (nI p) m a1 a2 a3 a4 a5 a6 a7 a8 a9 n 0 := by
  have hc := (hR.1 p hp).1
  have V : vp_in (nI p) 3 := vp_in_nI hp (by omega)
  refine pk_loop (σ := Unit) (fun n j _ => wX_tooEarly_9 post J2 (nI s) (nI p) m a1 a2 a3 a4 a5 a6 a7 a8 a9 n (nI j)) (fun j _ => ∀ q, q < j → cw_ok C K s F T p q) 3 0 () (by omega) (fun q hq => absurd hq (by omega)) ?_ ?_
  · intro n _ h
    exact pk_le 3 3 (fun _ => nm_r (nI_1 p) (H0 h)) (fun z => absurd z (by omega))
  · intro n j _ hj h hw
    have go : cw_ok C K s F T p j → wX_tooEarly_9 post J2 (nI s) (nI p) m a1 a2 a3 a4 a5 a6 a7 a8 a9 n (nI (j + 1)) := by
      intro hok
      refine hw () (fun q hq => ?_)
      by_cases e : q = j
      · rw [e]; exact hok
      · exact h q (by omega)
    have skip : cw_ok C K s F T p j → wX_tooEarly_39 post J2 (wX_tooEarly_9 post J2 (nI s) (nI p) m a1 a2 a3 a4 a5 a6 a7 a8 a9 n) (nI s) (nI p) (nI j) m a1 a2 a3 a4 a5 a6 a7 a8 a9 :=
      fun hok => br_t rfl (nm_r (nI_1 j) (go hok))
    refine pk_le 3 j (fun z => absurd z (by omega)) (fun _ => ?_)
    refine pk_eq p j (fun e => skip (fun w => absurd e w)) (fun ne => ?_)
    refine ek_if (cw_bitU s hs p hp) (fun b => skip (fun _ w => absurd w b)) (fun b => ?_)
    refine ek_if (cw_bitU s hs j hj) (fun d => skip (fun _ _ w => absurd w d)) (fun d => ?_)
    have b' : s.testBit p = true := Classical.byContradiction b
    have d' : s.testBit j = true := Classical.byContradiction d
    obtain ⟨_, p9, _, pT⟩ := h89 p hp b'
    obtain ⟨j8, _, jF, _⟩ := h89 j hj d'
    have e9 : a9 (nI p).toNatClampNeg = nI (T p) := by rw [nI_clamp (by omega)]; exact p9
    have e8 : a8 (nI j).toNatClampNeg = nI (F j) := by rw [nI_clamp (by omega)]; exact j8
    have e9' : a9 (nI p).toNatClampNeg + 1 = nI (T p + 1) := by rw [e9, nI_1]
    refine br_f (by decide) ⟨V, V, pk_le (C p) (T p) (fun z => nm_r (nI_1 j) (go (fun _ _ _ w => absurd w (by omega)))) (fun z => ⟨V, ?_⟩) (cw_a1 hR hp) e9⟩
    rw [e9']
    refine cw_kb hR hp (by omega) hj ⟨vp_in_nI hj (by omega), ?_⟩
    have k8 := (hR.2 p (T p + 1) j hp (by omega) hj).1
    exact pk_le (F j) (K p (T p + 1) j) (fun w => nm_r (nI_1 j) (go (fun _ _ _ _ => w))) (fun w => H1 j hj ne b' d' z w) e8
theorem cw_early {post : Int32 → Prop} {m : Int32} {a1 a2 a3 a4 a5 a6 a7 a8 a9 : Nat → Int32} {C : Nat → Nat} {K : Nat → Nat → Nat → Nat} {s : Nat} {F T : Nat → Nat} (hR : cw_R C K a1 a3) (hs : s < 8)
    (h89 : ∀ p, p < 3 → s.testBit p = true → a8 p = nI (F p) ∧ a9 p = nI (T p) ∧ F p ≤ 8 ∧ T p ≤ 8)
    (H1 : ∀ p q, p < 3 → q < 3 → p ≠ q → s.testBit p = true → s.testBit q = true → T p < C p → K p (T p + 1) q < F q → post (nI p))
    (H0 : (∀ p q, p < 3 → q < 3 → cw_ok C K s F T p q) → post (-1)) : wpX_tooEarly post (m, a1, a2, a3, a4, a5, a6, a7, a8, a9) (nI s) := by
  unfold wpX_tooEarly
  refine pk_loop (σ := Unit) (fun n i _ => wX_tooEarly_2 post (nI s) m a1 a2 a3 a4 a5 a6 a7 a8 a9 n (nI i)) (fun i _ => ∀ p, p < i → ∀ q, q < 3 → cw_ok C K s F T p q) 3 0 () (by omega) (fun q hq => absurd hq (by omega)) ?_ ?_
  · intro n _ h
    exact pk_le 3 3 (fun _ => H0 (fun p q hp hq => h p hp q hq)) (fun z => absurd z (by omega))
  · intro n i _ hi h hw
    refine pk_le 3 i (fun z => absurd z (by omega)) (fun _ => cw_early9 hR hs hi h89 (fun q => H1 i q hi) (fun hq => hw () (fun p hp => ?_)))
    by_cases e : p = i
    · rw [e]; exact hq
    · exact h p (by omega)
/-! stretchesMeet -/
def cw_sol (C : Nat → Nat) (K : Nat → Nat → Nat → Nat) (g : Nat → Int32) (s : Nat) (F T : Nat → Nat) : Prop :=
  (∀ p, p < 3 → s.testBit p = true → cw_st C g p (F p) (T p)) ∧ (∀ p q, p < 3 → q < 3 → cw_ok C K s F T p q)
theorem cw_Dsol {C : Nat → Nat} {K : Nat → Nat → Nat → Nat} {g : Nat → Int32} {s : Nat} : cw_D C K g s ↔ ∃ F T, cw_sol C K g s F T := Iff.rfl
/-- from and to hold stretches of the processes below i, none later than those of any solution -/
def cw_S (C : Nat → Nat) (K : Nat → Nat → Nat → Nat) (g : Nat → Int32) (s i : Nat) (a8 a9 : Nat → Int32) (F T : Nat → Nat) : Prop :=
  (∀ p, p < i → s.testBit p = true → a8 p = nI (F p) ∧ a9 p = nI (T p) ∧ cw_st C g p (F p) (T p)) ∧
  (∀ F' T', cw_sol C K g s F' T' → ∀ p, p < i → s.testBit p = true → F p ≤ F' p)
def cw_w (s : Nat) (F : Nat → Nat) : Nat := (if s.testBit 0 = true then F 0 else 0) + (if s.testBit 1 = true then F 1 else 0) + (if s.testBit 2 = true then F 2 else 0)
theorem cw_w_b {s : Nat} {F : Nat → Nat} (h : ∀ p, p < 3 → s.testBit p = true → F p ≤ 8) : cw_w s F ≤ 24 := by
  have g : ∀ p, p < 3 → (if s.testBit p = true then F p else 0) ≤ 8 := by
    intro p hp
    split
    · next e => exact h p hp e
    · omega
  have g0 := g 0 (by omega)
  have g1 := g 1 (by omega)
  have g2 := g 2 (by omega)
  unfold cw_w
  omega
theorem cw_w_up {s p f : Nat} {F : Nat → Nat} (hp : p < 3) (hb : s.testBit p = true) (hf : F p + 2 ≤ f) : cw_w s F + 2 ≤ cw_w s (fun x => if x = p then f else F x) := by
  unfold cw_w
  rcases (show p = 0 ∨ p = 1 ∨ p = 2 by omega) with e | e | e <;> subst e <;> simp [hb] <;> omega
def cw_S36 (C : Nat → Nat) (K : Nat → Nat → Nat → Nat) (g : Nat → Int32) (s r : Nat) (x2 : Int32) (a8 a9 : Nat → Int32) : Prop :=
  ∃ F T, cw_S C K g s 3 a8 a9 F T ∧ ((x2 = 0 ∧ ∀ p q, p < 3 → q < 3 → cw_ok C K s F T p q) ∨ (x2 = 1 ∧ 2 * r ≤ cw_w s F))
/-- a stretch that ends too early: every solution stands later -/
theorem cw_later {C : Nat → Nat} {K : Nat → Nat → Nat → Nat} {g : Nat → Int32} {s p q : Nat} {F T F' T' : Nat → Nat} (hsol : cw_sol C K g s F' T') (hp : p < 3) (hq : q < 3) (hpq : p ≠ q) (bp : s.testBit p = true) (bq : s.testBit q = true)
    (st : cw_st C g p (F p) (T p)) (ht : T p < C p) (hk : K p (T p + 1) q < F q) (lp : F p ≤ F' p) (lq : F q ≤ F' q) : T p + 1 ≤ F' p := by
  obtain ⟨s1, s2, s3, s4⟩ := st
  obtain ⟨t1, t2, t3, t4⟩ := hsol.1 p hp bp
  refine Nat.le_of_not_lt (fun z => ?_)
  have e : T' p = T p := by
    rcases Nat.lt_trichotomy (T' p) (T p) with w | w | w
    · exact absurd (s3 (T' p + 1) (by omega) (by omega)) (t4 (by omega))
    · exact w
    · exact absurd (t3 (T p + 1) (by omega) (by omega)) (s4 ht)
  have a := hsol.2 p q hp hq hpq bp bq (by rw [e]; exact ht)
  rw [e] at a
  omega
theorem cw_Sset {C : Nat → Nat} {K : Nat → Nat → Nat → Nat} {g : Nat → Int32} {s i i' p f t : Nat} {a8 a9 : Nat → Int32} {F T : Nat → Nat} (h : cw_S C K g s i a8 a9 F T) (st : cw_st C g p f t)
    (hi : ∀ x, x < i' → x ≠ p → x < i) (lb : ∀ F' T', cw_sol C K g s F' T' → f ≤ F' p) :
    cw_S C K g s i' (upd a8 p (nI f)) (upd a9 p (nI t)) (fun x => if x = p then f else F x) (fun x => if x = p then t else T x) := by
  refine ⟨fun x hx bx => ?_, fun F' T' hs x hx bx => ?_⟩
  · by_cases e : x = p
    · subst e
      simp only [if_true, pk_us]
      exact ⟨trivial, trivial, st⟩
    · simp only [e, if_false]
      rw [pk_un e, pk_un e]
      exact h.1 x (hi x hx e) bx
  · show (if x = p then f else F x) ≤ F' x
    by_cases e : x = p
    · rw [if_pos e, e]
      exact lb F' T' hs
    · rw [if_neg e]
      exact h.2 F' T' hs x (hi x hx e) bx
theorem cw_meet36 {post : Int32 → St1 → Prop} {m : Int32} {a1 a2 a3 a4 a5 a6 a7 a8 a9 : Nat → Int32} {C : Nat → Nat} {K : Nat → Nat → Nat → Nat} {s : Nat} (hR : cw_R C K a1 a3) (hs : s < 8)
    (H0 : ¬ cw_D C K a2 s → ∀ b8 b9, post 0 (m, a1, a2, a3, a4, a5, a6, a7, b8, b9)) (H1 : cw_D C K a2 s → ∀ b8 b9, post 1 (m, a1, a2, a3, a4, a5, a6, a7, b8, b9)) (h : cw_S36 C K a2 s 0 1 a8 a9) :
    ∃ n, wX_stretchesMeet_36 post (nI s) n 1 0 m a1 a2 a3 a4 a5 a6 a7 a8 a9 := by
  refine loop_m (fun n (t : Nat × Int32 × (Nat → Int32) × (Nat → Int32)) => wX_stretchesMeet_36 post (nI s) n t.2.1 (nI t.1) m a1 a2 a3 a4 a5 a6 a7 t.2.2.1 t.2.2.2) (fun t => t.1 ≤ 20 ∧ cw_S36 C K a2 s t.1 t.2.1 t.2.2.1 t.2.2.2) (fun t => 21 - t.1) ?_ (0, 1, a8, a9)
    ⟨by show 0 ≤ 20; omega, h⟩
  intro n t ht hw
  obtain ⟨r, x2, b8, b9⟩ := t
  obtain ⟨hr, F, T, hS, h3⟩ := ht
  dsimp only at hr hS h3
  have F8 : ∀ p, p < 3 → s.testBit p = true → F p ≤ 8 := by
    intro p hp hb
    obtain ⟨_, _, s1, s2, _⟩ := hS.1 p hp hb
    have := (hR.1 p hp).1
    omega
  have w8 := cw_w_b F8
  have yes : x2 = 0 → post 1 (m, a1, a2, a3, a4, a5, a6, a7, b8, b9) := by
    intro e
    rcases h3 with ⟨_, f⟩ | ⟨e1, f⟩
    · exact H1 ⟨F, T, fun p hp hb => (hS.1 p hp hb).2.2, f⟩ _ _
    · rw [e] at e1
      exact absurd e1 (by decide)
  refine pk_le 20 r (fun z => yes ?_) (fun z => br_c yes (fun e => ?_))
  · rcases h3 with ⟨e, _⟩ | ⟨_, f⟩
    · exact e
    · omega
  have hw2 : 2 * r ≤ cw_w s F := by
    rcases h3 with ⟨e1, _⟩ | ⟨_, f⟩
    · exact absurd e1 e
    · exact f
  have h89 : ∀ p, p < 3 → s.testBit p = true → b8 p = nI (F p) ∧ b9 p = nI (T p) ∧ F p ≤ 8 ∧ T p ≤ 8 := by
    intro p hp hb
    obtain ⟨x1, x2, s1, s2, _⟩ := hS.1 p hp hb
    have := (hR.1 p hp).1
    exact ⟨x1, x2, by omega, by omega⟩
  refine cw_early hR hs h89 (fun p q hp hq hpq bp bq ht hk => ?_) (fun hok => ?_)
  · obtain ⟨x8, x9, st⟩ := hS.1 p hp bp
    have hc := (hR.1 p hp).1
    have e9 : b9 (nI p).toNatClampNeg + 1 = nI (T p + 1) := by rw [nI_clamp (by omega), x9, nI_1]
    refine br_f (nI_pos (by omega)) (br_f (by decide) ⟨vp_in_nI hp (by omega), ?_⟩)
    rw [e9]
    have later : ∀ F' T', cw_sol C K a2 s F' T' → T p + 1 ≤ F' p := fun F' T' hsol => cw_later hsol hp hq hpq bp bq st ht hk (hS.2 F' T' hsol p hp bp) (hS.2 F' T' hsol q hq bq)
    refine cw_next hR hp (by omega) (fun hn => br_t rfl (H0 (fun hD => ?_) _ _)) (fun f t hf hst hn => br_f (by decide) (nm_r (nI_1 r) (hw (r + 1, 1, upd b8 p (nI f), upd b9 p (nI t)) ⟨by show r + 1 ≤ 20; omega, ?_⟩ (by show 21 - (r + 1) < 21 - r; omega))))
    · obtain ⟨F', T', hsol⟩ := hD
      have a := later F' T' hsol
      obtain ⟨t1, t2, t3, _⟩ := hsol.1 p hp bp
      exact hn (F' p) a (by omega) (t3 (F' p) (Nat.le_refl _) t1)
    · refine ⟨_, _, cw_Sset hS hst (fun x hx _ => hx) (fun F' T' hsol => ?_), Or.inr ⟨rfl, ?_⟩⟩
      · have a := later F' T' hsol
        obtain ⟨t1, t2, t3, _⟩ := hsol.1 p hp bp
        exact Nat.le_of_not_lt (fun w => hn (F' p) a w (t3 (F' p) (Nat.le_refl _) t1))
      · have hf2 : f ≠ T p + 1 := by
          intro ef
          have g1 := hst.2.2.1 f (Nat.le_refl _) hst.1
          rw [ef] at g1
          exact st.2.2.2 ht g1
        have s1 := st.1
        have := cw_w_up (F := F) hp bp (show F p + 2 ≤ f by omega)
        show 2 * (r + 1) ≤ _
        omega
  · refine br_t (by decide) (br_t rfl (nm_r (nI_1 r) (hw (r + 1, 0, b8, b9) ⟨by show r + 1 ≤ 20; omega, F, T, hS, Or.inl ⟨rfl, hok⟩⟩ (by show 21 - (r + 1) < 21 - r; omega))))
theorem cw_meet {post : Int32 → St1 → Prop} {m : Int32} {a1 a2 a3 a4 a5 a6 a7 a8 a9 : Nat → Int32} {C : Nat → Nat} {K : Nat → Nat → Nat → Nat} {s : Nat} (hR : cw_R C K a1 a3) (hs : s < 8)
    (H0 : ¬ cw_D C K a2 s → ∀ b8 b9, post 0 (m, a1, a2, a3, a4, a5, a6, a7, b8, b9)) (H1 : cw_D C K a2 s → ∀ b8 b9, post 1 (m, a1, a2, a3, a4, a5, a6, a7, b8, b9)) :
    wpX_stretchesMeet post (m, a1, a2, a3, a4, a5, a6, a7, a8, a9) (nI s) := by
  unfold wpX_stretchesMeet
  refine pk_loop (fun n i (t : (Nat → Int32) × (Nat → Int32)) => wX_stretchesMeet_2 post (nI s) n (nI i) m a1 a2 a3 a4 a5 a6 a7 t.1 t.2) (fun i t => ∃ F T, cw_S C K a2 s i t.1 t.2 F T) 3 0 (a8, a9) (by omega) ?_ ?_ ?_
  · exact ⟨fun _ => 0, fun _ => 0, fun p hp => absurd hp (by omega), fun _ _ _ p hp => absurd hp (by omega)⟩
  · intro n t h
    obtain ⟨F, T, hS⟩ := h
    exact pk_le 3 3 (fun _ => cw_meet36 hR hs H0 H1 ⟨F, T, hS, Or.inr ⟨rfl, Nat.zero_le _⟩⟩) (fun z => absurd z (by omega))
  · intro n i t hi h hw
    obtain ⟨b8, b9⟩ := t
    obtain ⟨F, T, hS⟩ := h
    dsimp only at hS
    refine pk_le 3 i (fun z => absurd z (by omega)) (fun _ => ?_)
    refine ek_if (cw_bitU s hs i hi) (fun b => nm_r (nI_1 i) (hw (b8, b9) ⟨F, T, fun p hp hb => ?_, fun F' T' hsol p hp hb => ?_⟩)) (fun b => ?_)
    · by_cases e : p = i
      · exact absurd (e ▸ hb) b
      · exact hS.1 p (by omega) hb
    · by_cases e : p = i
      · exact absurd (e ▸ hb) b
      · exact hS.2 F' T' hsol p (by omega) hb
    · have b' : s.testBit i = true := Classical.byContradiction b
      refine cw_next (st := 0) hR hi (Nat.zero_le _) (fun hn => br_t rfl (H0 (fun hD => ?_) _ _)) (fun f t hf hst hn => br_f (by decide) (nm_r (nI_1 i) (hw (upd b8 i (nI f), upd b9 i (nI t)) ⟨_, _, cw_Sset hS hst (fun x hx hne => by omega) (fun F' T' hsol => ?_)⟩)))
      · obtain ⟨F', T', hsol⟩ := hD
        obtain ⟨t1, t2, t3, _⟩ := hsol.1 i hi b'
        exact hn (F' i) (Nat.zero_le _) (by omega) (t3 (F' i) (Nat.le_refl _) t1)
      · obtain ⟨t1, t2, t3, _⟩ := hsol.1 i hi b'
        exact Nat.le_of_not_lt (fun w => hn (F' i) (Nat.zero_le _) w (t3 (F' i) (Nat.le_refl _) t1))
theorem cw_definitely {post : Int32 → St1 → Prop} {m : Int32} {a1 a2 a3 a4 a5 a6 a7 a8 a9 : Nat → Int32} {C : Nat → Nat} {K : Nat → Nat → Nat → Nat} {s : Nat} (hR : cw_R C K a1 a3) (h1 : 1 ≤ s) (hs : s < 8)
    (H : ∀ b8 b9, post (nI (cw_b (cw_D C K a2 s))) (m, a1, a2, a3, a4, a5, a6, a7, b8, b9)) : wpX_definitely post (m, a1, a2, a3, a4, a5, a6, a7, a8, a9) (nI s) := by
  unfold wpX_definitely
  refine pk_lt s 1 (fun z => absurd z (by omega)) (fun _ => pk_le s 7 (fun _ => ?_) (fun z => absurd z (by omega)))
  refine cw_meet hR hs (fun hP b8 b9 => br_t rfl ?_) (fun hP b8 b9 => br_f (by decide) ?_)
  · have := H b8 b9
    rw [cw_b_f hP] at this
    exact this
  · have := H b8 b9
    rw [cw_b_t hP] at this
    exact this
end
section
/-! the bits that the law keeps -/
def cw_acc (f : Nat → Nat) : Nat → Int32
  | 0 => 0
  | n + 1 => cw_acc f n ||| (nI (f (n + 1)) <<< (nI (n + 1) &&& 31))
def cw_or7 (b1 b2 b3 b4 b5 b6 b7 : Nat) : Int32 :=
  (((((((0 : Int32) ||| (nI b1 <<< (nI 1 &&& 31))) ||| (nI b2 <<< (nI 2 &&& 31))) ||| (nI b3 <<< (nI 3 &&& 31))) ||| (nI b4 <<< (nI 4 &&& 31))) ||| (nI b5 <<< (nI 5 &&& 31))) ||| (nI b6 <<< (nI 6 &&& 31))) ||| (nI b7 <<< (nI 7 &&& 31))
theorem cw_tab : ∀ n, n < 128 → ∀ s, s < 7 → ((cw_or7 (n % 2) (n / 2 % 2) (n / 4 % 2) (n / 8 % 2) (n / 16 % 2) (n / 32 % 2) (n / 64 % 2) >>> (nI (s + 1) &&& 31)) &&& 1) = nI (n / 2 ^ s % 2) := by decide +kernel
theorem cw_accbit {f : Nat → Nat} (hf : ∀ i, f i < 2) : ∀ s, 1 ≤ s → s < 8 → ((cw_acc f 7 >>> (nI s &&& 31)) &&& 1) = nI (f s) := by
  intro s h1 h8
  have e : cw_acc f 7 = cw_or7 (f 1) (f 2) (f 3) (f 4) (f 5) (f 6) (f 7) := rfl
  have f1 := hf 1
  have f2 := hf 2
  have f3 := hf 3
  have f4 := hf 4
  have f5 := hf 5
  have f6 := hf 6
  have f7 := hf 7
  obtain ⟨n, hn⟩ : ∃ n, n = f 1 + 2 * f 2 + 4 * f 3 + 8 * f 4 + 16 * f 5 + 32 * f 6 + 64 * f 7 := ⟨_, rfl⟩
  have e1 : n % 2 = f 1 := by omega
  have e2 : n / 2 % 2 = f 2 := by omega
  have e3 : n / 4 % 2 = f 3 := by omega
  have e4 : n / 8 % 2 = f 4 := by omega
  have e5 : n / 16 % 2 = f 5 := by omega
  have e6 : n / 32 % 2 = f 6 := by omega
  have e7 : n / 64 % 2 = f 7 := by omega
  have t := cw_tab n (by omega) (s - 1) (by omega)
  rw [e1, e2, e3, e4, e5, e6, e7, ← e, show s - 1 + 1 = s by omega] at t
  rw [t]
  rcases (show s = 1 ∨ s = 2 ∨ s = 3 ∨ s = 4 ∨ s = 5 ∨ s = 6 ∨ s = 7 by omega) with z | z | z | z | z | z | z <;> subst z
  · exact congrArg nI (by rw [← e1]; omega)
  · exact congrArg nI e2
  · exact congrArg nI e3
  · exact congrArg nI e4
  · exact congrArg nI e5
  · exact congrArg nI e6
  · exact congrArg nI e7
theorem cw_bitS : ∀ s, s < 8 → ∀ p, p < 3 → (((nI s >>> (nI p &&& 31)) &&& 1) = 0 ↔ ¬ s.testBit p = true) := by decide +kernel
theorem cw_b_2 (P : Prop) : cw_b P < 2 := by
  by_cases h : P
  · rw [cw_b_t h]; omega
  · rw [cw_b_f h]; omega
theorem cw_b_le {P Q : Prop} (h : P → Q) : cw_b P ≤ cw_b Q := by
  by_cases hp : P
  · rw [cw_b_t hp, cw_b_t (h hp)]; omega
  · rw [cw_b_f hp]; omega
theorem cw_b_eq {P Q : Prop} (h : P → Q) (h' : Q → P) : cw_b P = cw_b Q := Nat.le_antisymm (cw_b_le h) (cw_b_le h')
/-! the second loop of added: after the step -/
theorem cw_a162 {post : Int32 → St1 → Prop} {m x2 x5 x6 : Int32} {a1 a2 a3 a4 a5 a6 a7 a8 a9 : Nat → Int32} {C : Nat → Nat} {K : Nat → Nat → Nat → Nat} {p : Nat} {pv dv : Nat → Nat} (hR : cw_R C K a1 a3) (hL : cw_L C K) (hp : p < 3)
    (hx5 : ∀ s, 1 ≤ s → s < 8 → ((x5 >>> (nI s &&& 31)) &&& 1) = nI (pv s)) (hx6 : ∀ s, 1 ≤ s → s < 8 → ((x6 >>> (nI s &&& 31)) &&& 1) = nI (dv s))
    (h1 : ∀ s, pv s ≤ cw_b (cw_P C K a2 s)) (h2 : ∀ s, cw_b (cw_D C K a2 s) ≤ cw_b (cw_P C K a2 s))
    (h3 : ∀ s, ¬ s.testBit p = true → cw_b (cw_P C K a2 s) = pv s ∧ cw_b (cw_D C K a2 s) = dv s) (h4 : x2 = 0 → ∀ s, cw_b (cw_P C K a2 s) = pv s)
    (H : ∀ b7 b8 b9, post 1 (m, a1, a2, a3, a4, a5, a6, b7, b8, b9)) : ∃ n, wL_added_162 post (nI p) x2 x5 x6 n 1 m a1 a2 a3 a4 a5 a6 a7 a8 a9 := by
  refine pk_loop (fun n s (t : (Nat → Int32) × (Nat → Int32) × (Nat → Int32)) => wL_added_162 post (nI p) x2 x5 x6 n (nI s) m a1 a2 a3 a4 a5 a6 t.1 t.2.1 t.2.2) (fun s _ => 1 ≤ s) 8 1 (a7, a8, a9) (by omega) (Nat.le_refl _) ?_ ?_
  · intro n t _
    exact pk_le 8 8 (fun _ => H _ _ _) (fun z => absurd z (by omega))
  · intro n s t hs hs1 hw
    obtain ⟨b7, b8, b9⟩ := t
    have bP := cw_b_2 (cw_P C K a2 s)
    have g257 : ∀ c7 c8 c9, wL_added_257 post (wL_added_162 post (nI p) x2 x5 x6 n) (nI p) x2 x5 x6 (nI s) m a1 a2 a3 a4 a5 a6 c7 c8 c9 := by
      intro c7 c8 c9
      refine br_c (fun e => ?_) (fun _ => nm_r (nI_1 s) (hw (c7, c8, c9) (by omega)))
      refine cw_possibly hR hL hs1 hs (fun d7 => ?_)
      exact br_t (by rw [hx5 s hs1 hs, h4 e s]) (nm_r (nI_1 s) (hw (d7, c8, c9) (by omega)))
    refine pk_le 8 s (fun z => absurd z (by omega)) (fun _ => ?_)
    refine cw_possibly hR hL hs1 hs (fun c7 => ?_)
    refine br_f (by rw [hx5 s hs1 hs]; exact nI_nlt (h1 s) (by omega)) ?_
    refine cw_definitely hR hs1 hs (fun c8 c9 => ?_)
    refine cw_possibly hR hL hs1 hs (fun d7 => ?_)
    refine br_t (nI_le (h2 s) (by omega)) ?_
    refine ek_if (cw_bitS s hs p hp) (fun b => ?_) (fun b => ?_)
    · refine br_f (by decide) ?_
      refine cw_possibly hR hL hs1 hs (fun f7 => ?_)
      refine br_t (by rw [hx5 s hs1 hs, (h3 s b).1]) ?_
      refine cw_definitely hR hs1 hs (fun f8 f9 => ?_)
      exact br_t (by rw [hx6 s hs1 hs, (h3 s b).2]) (g257 _ _ _)
    · exact br_t rfl (g257 _ _ _)
theorem cw_inj9 {x j p k : Nat} (hj : j ≤ 8) (hk : k ≤ 8) (h : 9 * x + j = 9 * p + k) : x = p ∧ j = k := by
  have h1 : (9 * x + j) / 9 = x := by omega
  have h2 : (9 * p + k) / 9 = p := by omega
  have h3 : x = p := by rw [← h1, h, h2]
  exact ⟨h3, by omega⟩
theorem cw_vp0 : vp_nar .boolean 0 = 0 := rfl
theorem cw_m1 {n : Nat} (h : n < 2 ^ 31) : ¬ nI n = -1 := by
  intro e
  have := nI_pos h
  rw [e] at this
  exact this (by decide)
/-! the step of added: what it does to possibly and definitely -/
theorem cw_astep {post : Int32 → St1 → Prop} {m x2 x5 x6 : Int32} {a1 a2 a3 b3 a4 a5 a6 a7 a8 a9 : Nat → Int32} {C : Nat → Nat} {K : Nat → Nat → Nat → Nat} {p : Nat} (hR : cw_R C K a1 a3) (hL : cw_L C K) (hp : p < 3) (hc8 : C p < 8)
    (hx5 : ∀ s, 1 ≤ s → s < 8 → ((x5 >>> (nI s &&& 31)) &&& 1) = nI (cw_b (cw_P C K a2 s))) (hx6 : ∀ s, 1 ≤ s → s < 8 → ((x6 >>> (nI s &&& 31)) &&& 1) = nI (cw_b (cw_D C K a2 s)))
    (hR' : cw_R (cw_uC C p) (cw_uK K p (C p + 1) (cw_V C K p)) (upd a1 p (nI (C p + 1))) b3)
    (H : ∀ b7 b8 b9, post 1 (m, upd a1 p (nI (C p + 1)), upd a2 (9 * p + (C p + 1)) (vp_nar .boolean x2), b3, a4, a5, a6, b7, b8, b9)) :
    ∃ n, wL_added_162 post (nI p) x2 x5 x6 n 1 m (upd a1 p (nI (C p + 1))) (upd a2 (9 * p + (C p + 1)) (vp_nar .boolean x2)) b3 a4 a5 a6 a7 a8 a9 := by
  have hL' := cw_Lstep hL hp
  have hg : ∀ x j, x < 3 → j ≤ C x → upd a2 (9 * p + (C p + 1)) (vp_nar .boolean x2) (9 * x + j) = a2 (9 * x + j) := by
    intro x j hx hj
    have := (hR.1 x hx).1
    refine pk_un (fun z => ?_)
    obtain ⟨z1, z2⟩ := cw_inj9 (by omega) (by omega) z
    rw [z1] at hj
    omega
  have hK : ∀ x j q, x < 3 → j ≤ C x → cw_uK K p (C p + 1) (cw_V C K p) x j q = K x j q := fun x j q _ hj => cw_uK_o hj
  have hPm : ∀ s, cw_P C K a2 s → cw_P (cw_uC C p) (cw_uK K p (C p + 1) (cw_V C K p)) (upd a2 (9 * p + (C p + 1)) (vp_nar .boolean x2)) s :=
    fun s h => cw_Pmono (fun x => cw_uC_le) hK hg h
  have hPo : ∀ s, ¬ s.testBit p = true → cw_P (cw_uC C p) (cw_uK K p (C p + 1) (cw_V C K p)) (upd a2 (9 * p + (C p + 1)) (vp_nar .boolean x2)) s → cw_P C K a2 s :=
    fun s b h => cw_Pother hL hp (fun q _ e => cw_V_n e) hg b h
  refine cw_a162 hR' hL' hp hx5 hx6 (fun s => cw_b_le (hPm s)) (fun s => cw_b_le (cw_DP hL')) (fun s b => ⟨cw_b_eq (hPo s b) (hPm s), ?_⟩) (fun e s => cw_b_eq ?_ (hPm s)) H
  · have ne : ∀ x, s.testBit x = true → x ≠ p := fun x hx e => b (e ▸ hx)
    refine cw_b_eq (fun h => ?_) (fun h => ?_)
    · refine cw_Dsame (fun x _ hb => (cw_uC_n (ne x hb)).symm) (fun x j q hx hb hj => ?_) (fun x j hx hb hj => ?_) h
      · rw [cw_uC_n (ne x hb)] at hj
        exact (hK x j q hx hj).symm
      · rw [cw_uC_n (ne x hb)] at hj
        exact (hg x j hx hj).symm
    · exact cw_Dsame (fun x _ hb => cw_uC_n (ne x hb)) (fun x j q hx _ hj => hK x j q hx hj) (fun x j hx _ hj => hg x j hx hj) h
  · by_cases b : s.testBit p = true
    · refine cw_Pbad hp hg b ?_
      unfold cw_G
      rw [pk_us, e]
      exact fun w => w cw_vp0
    · exact hPo s b
theorem cw_added {post : Int32 → St1 → Prop} {m x2 : Int32} {a1 a2 a3 a4 a5 a6 a7 a8 a9 : Nat → Int32} {p : Nat} (hp : p < 3) (h : cw_I m a1 a3 a4 a5)
    (H : ∀ m' b1 b2 b3 b4 b5 b6 b7 b8 b9, cw_I m' b1 b3 b4 b5 → post 1 (m', b1, b2, b3, b4, b5, b6, b7, b8, b9)) : wpL_added post (m, a1, a2, a3, a4, a5, a6, a7, a8, a9) (nI p) x2 := by
  have h0 := h
  obtain ⟨C, K, hR, hL, hM⟩ := h
  have hc := (hR.1 p hp).1
  have hC0 := (hR.1 0 (by omega)).1
  have hC1 := (hR.1 1 (by omega)).1
  have hC2 := (hR.1 2 (by omega)).1
  have hcb := cw_c0_b K hC2 hC1 hC0
  unfold wpL_added
  refine cw_cuts hR hL (cw_events hR hp ?_)
  refine pk_loop (fun n i (t : Int32 × Int32 × (Nat → Int32) × (Nat → Int32) × (Nat → Int32)) => wL_added_21 post (nI p) x2 (nI (cw_c0 C K)) (nI (C p)) n t.1 t.2.1 (nI i) m a1 a2 a3 a4 a5 a6 t.2.2.1 t.2.2.2.1 t.2.2.2.2)
    (fun i t => ∃ j, i = j + 1 ∧ t.1 = cw_acc (fun s => cw_b (cw_P C K a2 s)) j ∧ t.2.1 = cw_acc (fun s => cw_b (cw_D C K a2 s)) j) 8 1 (0, 0, a7, a8, a9) (by omega) ⟨0, rfl, rfl, rfl⟩ ?_ ?_
  · intro n t ht
    obtain ⟨x5, x6, b7, b8, b9⟩ := t
    obtain ⟨j, ej, e5, e6⟩ := ht
    dsimp only at e5 e6
    have ej7 : j = 7 := by omega
    subst ej7
    have hx5 : ∀ s, 1 ≤ s → s < 8 → ((x5 >>> (nI s &&& 31)) &&& 1) = nI (cw_b (cw_P C K a2 s)) := by
      rw [e5]
      exact cw_accbit (f := fun s => cw_b (cw_P C K a2 s)) (fun i => cw_b_2 _)
    have hx6 : ∀ s, 1 ≤ s → s < 8 → ((x6 >>> (nI s &&& 31)) &&& 1) = nI (cw_b (cw_D C K a2 s)) := by
      rw [e6]
      exact cw_accbit (f := fun s => cw_b (cw_D C K a2 s)) (fun i => cw_b_2 _)
    refine pk_le 8 8 (fun _ => ?_) (fun z => absurd z (by omega))
    refine cw_step hR hp (fun _ => ?_) (fun hc8 b3 hR' => ?_)
    · exact br_t rfl (cw_events hR hp (br_t rfl (cw_cuts hR hL (br_t rfl (H _ _ _ _ _ _ _ _ _ _ h0)))))
    · have hL' := cw_Lstep hL hp
      have hgr := cw_grow hp hL' (fun x j q _ hj => cw_uK_o (K := K) hj)
      have hb' := cw_c0_b (cw_uK K p (C p + 1) (cw_V C K p)) (hR'.1 2 (by omega)).1 (hR'.1 1 (by omega)).1 (hR'.1 0 (by omega)).1
      refine br_f (cw_m1 (by omega)) (br_t (nI_1 _).symm (cw_cuts hR' hL' (br_f (nI_ge hgr (by omega)) ?_)))
      have uc : cw_uC C p p = C p + 1 := cw_uC_s
      refine cw_knows hR' hp hp (by omega) ?_
      rw [cw_uK_s, cw_V_s]
      have eq : (nI p + 1) - (nI p + 1) / 3 * 3 = nI ((p + 1) % 3) := by
        rw [nI_1]
        exact pk_rem (d := 3) (by omega) (by omega) (by omega)
      have hq : (p + 1) % 3 < 3 := by omega
      have hqp : (p + 1) % 3 ≠ p := by omega
      refine br_t rfl ⟨by decide, ?_⟩
      rw [eq]
      refine cw_knows hR' hp hq (by omega) ⟨by decide, cw_knows hR' hp hq (by omega) ?_⟩
      rw [cw_uK_s, cw_V_n hqp, cw_uK_o (Nat.le_refl _)]
      refine br_t rfl (cw_astep hR hL hp hc8 hx5 hx6 hR' (fun c7 c8 c9 => H _ _ _ _ _ _ _ _ _ _ ⟨_, _, hR', hL', cw_Mup hp hM⟩))
  · intro n i t hi ht hw
    obtain ⟨x5, x6, b7, b8, b9⟩ := t
    obtain ⟨j, ej, e5, e6⟩ := ht
    dsimp only at e5 e6
    subst ej
    refine pk_le 8 (j + 1) (fun z => absurd z (by omega)) (fun _ => ?_)
    refine cw_possibly hR hL (by omega) hi (fun c7 => nm_e ?_)
    refine cw_definitely hR (by omega) hi (fun c8 c9 => nm_e (nm_r (nI_1 _) (hw (_, _, c7, c8, c9) ⟨j + 1, rfl, ?_, ?_⟩)))
    · show x5 ||| _ = _
      rw [e5]
      rfl
    · show x6 ||| _ = _
      rw [e6]
      rfl
end
section
/-! the law, from its last step back -/
theorem cw_l220 {post : Int32 → Prop} {L : Nat} {xs : Nat → Int32} {J10 : Int32 → Int32 → (Nat → Int32) → (Nat → Int32) → (Nat → Int32) → (Nat → Int32) → (Nat → Int32) → (Nat → Int32) → (Nat → Int32) → (Nat → Int32) → (Nat → Int32) → Prop} {kc ks i p : Nat} {z0 m : Int32} {a1 a2 a3 a4 a5 a6 a7 a8 a9 : Nat → Int32} (hp : p < 3) (h : cw_I m a1 a3 a4 a5)
    (HJ : ∀ m b1 b2 b3 b4 b5 b6 b7 b8 b9, cw_I m b1 b3 b4 b5 → J10 (nI (i + 3)) m b1 b2 b3 b4 b5 b6 b7 b8 b9) : wL_law_220 post L xs J10 (nI i) z0 (nI p) kc ks m a1 a2 a3 a4 a5 a6 a7 a8 a9 := by
  unfold wL_law_220
  exact cw_added hp h (fun m' b1 b2 b3 b4 b5 b6 b7 b8 b9 hI => br_f (by decide) (nm_r (nI_add i 3) (HJ m' b1 b2 b3 b4 b5 b6 b7 b8 b9 hI)))
theorem cw_l194 {post : Int32 → Prop} {L : Nat} {xs : Nat → Int32} {J10 : Int32 → Int32 → (Nat → Int32) → (Nat → Int32) → (Nat → Int32) → (Nat → Int32) → (Nat → Int32) → (Nat → Int32) → (Nat → Int32) → (Nat → Int32) → (Nat → Int32) → Prop} {kc ks i p : Nat} {x3 x5 m : Int32} {a1 a2 a3 a4 a5 a6 a7 a8 a9 : Nat → Int32} (hp : p < 3) (h : cw_I m a1 a3 a4 a5)
    (HJ : ∀ m b1 b2 b3 b4 b5 b6 b7 b8 b9, cw_I m b1 b3 b4 b5 → J10 (nI (i + 3)) m b1 b2 b3 b4 b5 b6 b7 b8 b9) : wL_law_194 post L xs J10 (nI i) x3 x5 (nI p) kc ks m a1 a2 a3 a4 a5 a6 a7 a8 a9 := by
  have eq : (nI p + 1) - (nI p + 1) / 3 * 3 = nI ((p + 1) % 3) := by
    rw [nI_1]
    exact pk_rem (d := 3) (by omega) (by omega) (by omega)
  have hq : (p + 1) % 3 < 3 := by omega
  unfold wL_law_194
  rw [eq]
  exact br_c (fun _ => ⟨by decide, br_c (fun _ => cw_l220 hq h HJ) (fun _ => cw_l220 hq h HJ)⟩) (fun _ => nm_r (nI_add i 3) (HJ m a1 a2 a3 a4 a5 a6 a7 a8 a9 h))
theorem cw_l184 {post : Int32 → Prop} {L : Nat} {xs : Nat → Int32} {J10 : Int32 → Int32 → (Nat → Int32) → (Nat → Int32) → (Nat → Int32) → (Nat → Int32) → (Nat → Int32) → (Nat → Int32) → (Nat → Int32) → (Nat → Int32) → (Nat → Int32) → Prop} {kc ks i p : Nat} {x3 x5 x7 m : Int32} {a1 a2 a3 a4 a5 a6 a7 a8 a9 : Nat → Int32} (hp : p < 3) (h : cw_I m a1 a3 a4 a5)
    (HJ : ∀ m b1 b2 b3 b4 b5 b6 b7 b8 b9, cw_I m b1 b3 b4 b5 → J10 (nI (i + 3)) m b1 b2 b3 b4 b5 b6 b7 b8 b9) : ∀ q, q < 3 → wL_law_184 post L xs J10 (nI i) x3 x5 (nI p) x7 (nI q) kc ks m a1 a2 a3 a4 a5 a6 a7 a8 a9 := by
  intro q hq
  unfold wL_law_184
  exact cw_added hq h (fun m' b1 b2 b3 b4 b5 b6 b7 b8 b9 hI => br_f (by decide) (cw_l194 hp hI HJ))
theorem cw_l160 {post : Int32 → Prop} {L : Nat} {xs : Nat → Int32} {J10 : Int32 → Int32 → (Nat → Int32) → (Nat → Int32) → (Nat → Int32) → (Nat → Int32) → (Nat → Int32) → (Nat → Int32) → (Nat → Int32) → (Nat → Int32) → (Nat → Int32) → Prop} {kc ks i p : Nat} {x3 x4 x5 x7 m : Int32} {a1 a2 a3 a4 a5 a6 a7 a8 a9 : Nat → Int32} (hp : p < 3) (h : cw_I m a1 a3 a4 a5)
    (HJ : ∀ m b1 b2 b3 b4 b5 b6 b7 b8 b9, cw_I m b1 b3 b4 b5 → J10 (nI (i + 3)) m b1 b2 b3 b4 b5 b6 b7 b8 b9) : wL_law_160 post L xs J10 (nI i) x3 x4 x5 (nI p) x7 kc ks m a1 a2 a3 a4 a5 a6 a7 a8 a9 := by
  unfold wL_law_160
  refine br_c (fun _ => br_c (fun _ => cw_l184 hp h HJ p hp) (fun g1 => br_c (fun _ => cw_l184 hp h HJ p hp) (fun g2 => ?_))) (fun _ => cw_l194 hp h HJ)
  rcases pk_ix x4 (n := 3) (by omega) with e | e | ⟨j, hj, e⟩
  · exact absurd e g1
  · exact absurd e g2
  · subst e
    exact cw_l184 hp h HJ j hj
theorem cw_l144 {post : Int32 → Prop} {L : Nat} {xs : Nat → Int32} {J10 : Int32 → Int32 → (Nat → Int32) → (Nat → Int32) → (Nat → Int32) → (Nat → Int32) → (Nat → Int32) → (Nat → Int32) → (Nat → Int32) → (Nat → Int32) → (Nat → Int32) → Prop} {kc ks i p : Nat} {x3 x4 x5 x7 m : Int32} {a1 a2 a3 a4 a5 a6 a7 a8 a9 : Nat → Int32} (hp : p < 3) (h : cw_I m a1 a3 a4 a5)
    (HJ : ∀ m b1 b2 b3 b4 b5 b6 b7 b8 b9, cw_I m b1 b3 b4 b5 → J10 (nI (i + 3)) m b1 b2 b3 b4 b5 b6 b7 b8 b9) : wL_law_144 post L xs J10 (nI i) x3 x4 x5 (nI p) x7 kc ks m a1 a2 a3 a4 a5 a6 a7 a8 a9 := by
  unfold wL_law_144
  exact cw_receive h (fun r m' b1 b2 b3 b4 b5 b6 hI => cw_l160 hp hI HJ)
theorem cw_l133 {post : Int32 → Prop} {L : Nat} {xs : Nat → Int32} {J10 : Int32 → Int32 → (Nat → Int32) → (Nat → Int32) → (Nat → Int32) → (Nat → Int32) → (Nat → Int32) → (Nat → Int32) → (Nat → Int32) → (Nat → Int32) → (Nat → Int32) → Prop} {kc ks i p : Nat} {x3 x4 x5 x7 m : Int32} {a1 a2 a3 a4 a5 a6 a7 a8 a9 : Nat → Int32} (hp : p < 3) (h : cw_I m a1 a3 a4 a5)
    (HJ : ∀ m b1 b2 b3 b4 b5 b6 b7 b8 b9, cw_I m b1 b3 b4 b5 → J10 (nI (i + 3)) m b1 b2 b3 b4 b5 b6 b7 b8 b9) : wL_law_133 post L xs J10 (nI i) x3 x4 x5 (nI p) x7 kc ks m a1 a2 a3 a4 a5 a6 a7 a8 a9 := by
  unfold wL_law_133
  exact br_c (fun _ => cw_l144 hp h HJ) (fun _ => br_c (fun _ => cw_l144 hp h HJ) (fun _ => cw_l160 hp h HJ))
theorem cw_l117 {post : Int32 → Prop} {L : Nat} {xs : Nat → Int32} {J10 : Int32 → Int32 → (Nat → Int32) → (Nat → Int32) → (Nat → Int32) → (Nat → Int32) → (Nat → Int32) → (Nat → Int32) → (Nat → Int32) → (Nat → Int32) → (Nat → Int32) → Prop} {kc ks i p : Nat} {x3 x4 x5 x7 m : Int32} {a1 a2 a3 a4 a5 a6 a7 a8 a9 : Nat → Int32} (hp : p < 3) (h : cw_I m a1 a3 a4 a5)
    (HJ : ∀ m b1 b2 b3 b4 b5 b6 b7 b8 b9, cw_I m b1 b3 b4 b5 → J10 (nI (i + 3)) m b1 b2 b3 b4 b5 b6 b7 b8 b9) : wL_law_117 post L xs J10 (nI i) x3 x4 x5 (nI p) x7 kc ks m a1 a2 a3 a4 a5 a6 a7 a8 a9 := by
  unfold wL_law_117
  exact br_c (fun _ => cw_receive h (fun r m' b1 b2 b3 b4 b5 b6 hI => cw_l133 hp hI HJ)) (fun _ => cw_l133 hp h HJ)
theorem cw_l108 {post : Int32 → Prop} {L : Nat} {xs : Nat → Int32} {J10 : Int32 → Int32 → (Nat → Int32) → (Nat → Int32) → (Nat → Int32) → (Nat → Int32) → (Nat → Int32) → (Nat → Int32) → (Nat → Int32) → (Nat → Int32) → (Nat → Int32) → Prop} {kc ks i p : Nat} {x3 x4 x5 x7 m : Int32} {a1 a2 a3 a4 a5 a6 a7 a8 a9 : Nat → Int32} (hp : p < 3) (h : cw_I m a1 a3 a4 a5)
    (HJ : ∀ m b1 b2 b3 b4 b5 b6 b7 b8 b9, cw_I m b1 b3 b4 b5 → J10 (nI (i + 3)) m b1 b2 b3 b4 b5 b6 b7 b8 b9) : wL_law_108 post L xs J10 (nI i) x3 x4 x5 (nI p) x7 kc ks m a1 a2 a3 a4 a5 a6 a7 a8 a9 := by
  unfold wL_law_108
  exact cw_send h (fun r m' b1 b2 b3 b4 b5 b6 hI => cw_l117 hp hI HJ)
theorem cw_l97 {post : Int32 → Prop} {L : Nat} {xs : Nat → Int32} {J10 : Int32 → Int32 → (Nat → Int32) → (Nat → Int32) → (Nat → Int32) → (Nat → Int32) → (Nat → Int32) → (Nat → Int32) → (Nat → Int32) → (Nat → Int32) → (Nat → Int32) → Prop} {kc ks i p : Nat} {x3 x4 x5 x7 m : Int32} {a1 a2 a3 a4 a5 a6 a7 a8 a9 : Nat → Int32} (hp : p < 3) (h : cw_I m a1 a3 a4 a5)
    (HJ : ∀ m b1 b2 b3 b4 b5 b6 b7 b8 b9, cw_I m b1 b3 b4 b5 → J10 (nI (i + 3)) m b1 b2 b3 b4 b5 b6 b7 b8 b9) : wL_law_97 post L xs J10 (nI i) x3 x4 x5 (nI p) x7 kc ks m a1 a2 a3 a4 a5 a6 a7 a8 a9 := by
  unfold wL_law_97
  exact br_c (fun _ => cw_l108 hp h HJ) (fun _ => br_c (fun _ => cw_l108 hp h HJ) (fun _ => cw_l117 hp h HJ))
theorem cw_l83 {post : Int32 → Prop} {L : Nat} {xs : Nat → Int32} {J10 : Int32 → Int32 → (Nat → Int32) → (Nat → Int32) → (Nat → Int32) → (Nat → Int32) → (Nat → Int32) → (Nat → Int32) → (Nat → Int32) → (Nat → Int32) → (Nat → Int32) → Prop} {kc ks i p : Nat} {x3 x4 x5 x7 m : Int32} {a1 a2 a3 a4 a5 a6 a7 a8 a9 : Nat → Int32} (hp : p < 3) (h : cw_I m a1 a3 a4 a5)
    (HJ : ∀ m b1 b2 b3 b4 b5 b6 b7 b8 b9, cw_I m b1 b3 b4 b5 → J10 (nI (i + 3)) m b1 b2 b3 b4 b5 b6 b7 b8 b9) : wL_law_83 post L xs J10 (nI i) x3 x4 x5 (nI p) x7 kc ks m a1 a2 a3 a4 a5 a6 a7 a8 a9 := by
  unfold wL_law_83
  exact br_c (fun _ => cw_send h (fun r m' b1 b2 b3 b4 b5 b6 hI => cw_l97 hp hI HJ)) (fun _ => cw_l97 hp h HJ)
theorem cw_l68 {post : Int32 → Prop} {L : Nat} {xs : Nat → Int32} {J10 : Int32 → Int32 → (Nat → Int32) → (Nat → Int32) → (Nat → Int32) → (Nat → Int32) → (Nat → Int32) → (Nat → Int32) → (Nat → Int32) → (Nat → Int32) → (Nat → Int32) → Prop} {kc ks i p : Nat} {x3 x4 x5 z0 m : Int32} {a1 a2 a3 a4 a5 a6 a7 a8 a9 : Nat → Int32} (hp : p < 3) (h : cw_I m a1 a3 a4 a5)
    (HJ : ∀ m b1 b2 b3 b4 b5 b6 b7 b8 b9, cw_I m b1 b3 b4 b5 → J10 (nI (i + 3)) m b1 b2 b3 b4 b5 b6 b7 b8 b9) : wL_law_68 post L xs J10 (nI i) x3 x4 x5 (nI p) z0 kc ks m a1 a2 a3 a4 a5 a6 a7 a8 a9 := by
  unfold wL_law_68
  exact br_c (fun _ => cw_start h (fun r m' b1 b2 b3 b4 b5 b6 hI => cw_l83 hp hI HJ)) (fun _ => cw_l83 hp h HJ)
theorem cw_l10 {L : Nat} {xs : Nat → Int32} {kc ks : Nat} {m : Int32} {a1 a2 a3 a4 a5 a6 a7 a8 a9 : Nat → Int32} (hL : L ≤ 260) (h : cw_I m a1 a3 a4 a5) : ∃ n, wL_law_10 (fun r => r = 1) L xs kc ks n 0 m a1 a2 a3 a4 a5 a6 a7 a8 a9 := by
  refine lp11 (wL_law_10 (fun r => r = 1) L xs kc ks) (fun x2 m a1 a2 a3 a4 a5 a6 a7 a8 a9 => ∃ i, x2 = nI i ∧ i ≤ 300 ∧ cw_I m a1 a3 a4 a5) (fun x2 m a1 a2 a3 a4 a5 a6 a7 a8 a9 => 400 - x2.toNatClampNeg) ?_ 0 m a1 a2 a3 a4 a5 a6 a7 a8 a9 ⟨0, rfl, by omega, h⟩
  intro n x2 m a1 a2 a3 a4 a5 a6 a7 a8 a9 hI hw
  obtain ⟨i, e, hi, h⟩ := hI
  subst e
  refine pk_lt L (i + 3) (fun _ => rfl) (fun z => ?_) rfl (nI_add i 3)
  refine pk_le 150 i (fun _ => rfl) (fun z2 => ?_)
  have V0 : vp_in (nI i) L := vp_in_nI (by omega) (by omega)
  have V1 : vp_in (nI i + 1) L := by
    rw [nI_1]
    exact vp_in_nI (by omega) (by omega)
  have V2 : vp_in (nI i + 2) L := by
    have e : nI i + 2 = nI (i + 2) := nI_add i 2
    rw [e]
    exact vp_in_nI (by omega) (by omega)
  refine ⟨V0, nm_e ⟨V1, nm_e ⟨V2, nm_e ⟨by decide, ?_⟩⟩⟩⟩
  obtain ⟨j, hj, ej⟩ := pk_andE (xs (nI i + 1).toNatClampNeg) (m := 255) 8 (by decide)
  have E : (xs (nI i + 1).toNatClampNeg &&& 255) - (xs (nI i + 1).toNatClampNeg &&& 255) / 3 * 3 = nI (j % 3) := by
    rw [ej]
    exact pk_rem (d := 3) (by omega) (by omega) (by omega)
  have HJ : ∀ m b1 b2 b3 b4 b5 b6 b7 b8 b9, cw_I m b1 b3 b4 b5 → wL_law_10 (fun r => r = 1) L xs kc ks n (nI (i + 3)) m b1 b2 b3 b4 b5 b6 b7 b8 b9 := by
    intro m b1 b2 b3 b4 b5 b6 b7 b8 b9 hI
    refine hw _ _ _ _ _ _ _ _ _ _ _ ⟨i + 3, rfl, by omega, hI⟩ ?_
    show 400 - (nI (i + 3)).toNatClampNeg < 400 - (nI i).toNatClampNeg
    rw [nI_clamp (by omega), nI_clamp (by omega)]
    omega
  refine nm_r E (br_c (fun _ => cw_l68 (by omega) h HJ) (fun _ => cw_l68 (by omega) h HJ))
theorem cw_I0 : cw_I 0 (fun _ => 0) (fun _ => 0) (fun _ => 0) (fun _ => 0) := by
  refine ⟨fun _ => 0, fun _ _ _ => 0, ⟨fun p _ => ⟨Nat.zero_le _, rfl⟩, fun p k q _ _ _ => ⟨Nat.zero_le _, rfl⟩⟩, ⟨fun _ _ _ _ _ _ => Nat.le_refl _, fun p k _ hk => ?_, fun _ _ _ _ => rfl, fun _ _ _ _ _ _ _ _ _ _ => Nat.le_refl _, fun p k q j _ _ _ _ h1 h2 => ?_⟩, 0, fun _ => 0, fun _ => 0, rfl, Nat.zero_le _, fun i hi => absurd hi (by omega)⟩
  · show 0 = k
    have : k ≤ 0 := hk
    omega
  · have : j ≤ 0 := h2
    omega
theorem i_vc (xs : Nat → Int32) (L : Nat) (hL : L ≤ 260) : wpL_law (fun r => r = 1) L xs := by
  unfold wpL_law
  refine ⟨9, 192, by omega, by omega, ?_⟩
  unfold wpX_init
  refine ⟨by omega, by omega, by omega, by omega, by omega, by omega, by omega, by omega, by omega, by omega, by omega, by omega, by omega, by omega, by omega, by omega, by omega, by omega, ?_⟩
  exact cw_l10 hL cw_I0
end
