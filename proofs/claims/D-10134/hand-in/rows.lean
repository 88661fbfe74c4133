section
/-! one stream's picture: b k: where the stretch of key k begins (b 16: the size); K i: the key at place i -/
def pq_S (b K : Nat → Nat) : Prop := b 0 = 0 ∧ (∀ k, k < 16 → b k ≤ b (k + 1)) ∧ b 16 ≤ 40 ∧ (∀ i, i < b 16 → K i < 16 ∧ b (K i) ≤ i ∧ i < b (K i + 1))
theorem pq_le {b K : Nat → Nat} (h : pq_S b K) : ∀ d j, j + d ≤ 16 → b j ≤ b (j + d) := by
  intro d
  induction d with
  | zero => intro j _; exact Nat.le_refl _
  | succ d ih =>
    intro j hj
    have h1 := ih j (by omega)
    have h2 := h.2.1 (j + d) (by omega)
    have e : j + (d + 1) = j + d + 1 := by omega
    rw [e]
    omega
theorem pq_mono {b K : Nat → Nat} (h : pq_S b K) {j k : Nat} (h1 : j ≤ k) (h2 : k ≤ 16) : b j ≤ b k := by
  have t := pq_le h (k - j) j (by omega)
  rw [show j + (k - j) = k by omega] at t
  exact t
def pq_bi (b : Nat → Nat) (k : Nat) : Nat → Nat := fun j => if k < j then b j + 1 else b j
def pq_Ki (K : Nat → Nat) (p k : Nat) : Nat → Nat := fun i => if i < p then K i else if i = p then k else K (i - 1)
def pq_bd (b : Nat → Nat) (k g : Nat) : Nat → Nat := fun j => if k < j then b j - g else b j
def pq_Kd (K : Nat → Nat) (p g : Nat) : Nat → Nat := fun i => if i < p then K i else K (i + g)
theorem pq_bi_gt {b : Nat → Nat} {k j : Nat} (h : k < j) : pq_bi b k j = b j + 1 := if_pos h
theorem pq_bi_le {b : Nat → Nat} {k j : Nat} (h : j ≤ k) : pq_bi b k j = b j := if_neg (Nat.not_lt.mpr h)
theorem pq_bd_gt {b : Nat → Nat} {k g j : Nat} (h : k < j) : pq_bd b k g j = b j - g := if_pos h
theorem pq_bd_le {b : Nat → Nat} {k g j : Nat} (h : j ≤ k) : pq_bd b k g j = b j := if_neg (Nat.not_lt.mpr h)
theorem pq_bi_in (b : Nat → Nat) (k j : Nat) : b j ≤ pq_bi b k j ∧ pq_bi b k j ≤ b j + 1 := by
  unfold pq_bi
  split <;> omega
theorem pq_insS {b K : Nat → Nat} {k p : Nat} (h : pq_S b K) (hk : k < 16) (h1 : b k ≤ p) (h2 : p ≤ b (k + 1)) (hr : b 16 < 40) : pq_S (pq_bi b k) (pq_Ki K p k) := by
  have hm1 : b (k + 1) ≤ b 16 := pq_mono h (by omega) (by omega)
  refine ⟨?_, ?_, ?_, ?_⟩
  · rw [pq_bi_le (by omega)]
    exact h.1
  · intro j hj
    have t := h.2.1 j hj
    rcases Nat.lt_or_ge k j with z | z
    · rw [pq_bi_gt z, pq_bi_gt (show k < j + 1 by omega)]
      omega
    · rw [pq_bi_le z]
      have := (pq_bi_in b k (j + 1)).1
      omega
  · rw [pq_bi_gt hk]
    omega
  · intro i hi
    rw [pq_bi_gt hk] at hi
    rcases Nat.lt_or_ge i p with c1 | c1
    · obtain ⟨q1, q2, q3⟩ := h.2.2.2 i (by omega)
      have c2 : K i ≤ k := by
        rcases Nat.lt_or_ge k (K i) with z | z
        · have := pq_mono h (show k + 1 ≤ K i by omega) (by omega)
          omega
        · exact z
      rw [show pq_Ki K p k i = K i from if_pos c1, pq_bi_le c2]
      have := (pq_bi_in b k (K i + 1)).1
      exact ⟨q1, q2, by omega⟩
    · rcases Nat.eq_or_lt_of_le c1 with c3 | c3
      · have e : pq_Ki K p k i = k := by
          unfold pq_Ki
          rw [if_neg (by omega), if_pos (by omega)]
        rw [e, pq_bi_le (Nat.le_refl k), pq_bi_gt (show k < k + 1 by omega)]
        exact ⟨hk, by omega, by omega⟩
      · obtain ⟨q1, q2, q3⟩ := h.2.2.2 (i - 1) (by omega)
        have e : pq_Ki K p k i = K (i - 1) := by
          unfold pq_Ki
          rw [if_neg (by omega), if_neg (by omega)]
        have c2 : k < K (i - 1) + 1 := by
          rcases Nat.lt_or_ge k (K (i - 1) + 1) with z | z
          · exact z
          · have := pq_mono h z (by omega)
            omega
        rw [e, pq_bi_gt c2]
        have := (pq_bi_in b k (K (i - 1))).2
        exact ⟨q1, by omega, by omega⟩
theorem pq_delS {b K : Nat → Nat} {k p g : Nat} (h : pq_S b K) (hk : k < 16) (h1 : b k ≤ p) (h2 : p + g ≤ b (k + 1)) : pq_S (pq_bd b k g) (pq_Kd K p g) := by
  have hm1 : b (k + 1) ≤ b 16 := pq_mono h (by omega) (by omega)
  have hc := h.2.2.1
  have hg : ∀ j, k < j → j ≤ 16 → p + g ≤ b j := fun j z z2 => by
    have := pq_mono h (show k + 1 ≤ j by omega) z2
    omega
  refine ⟨?_, ?_, ?_, ?_⟩
  · rw [pq_bd_le (by omega)]
    exact h.1
  · intro j hj
    have t := h.2.1 j hj
    rcases Nat.lt_or_ge k j with z | z
    · rw [pq_bd_gt z, pq_bd_gt (show k < j + 1 by omega)]
      omega
    · rw [pq_bd_le z]
      rcases Nat.lt_or_ge k (j + 1) with y | y
      · rw [pq_bd_gt y]
        have := hg (j + 1) y (by omega)
        have e : j = k := by omega
        rw [e] at this ⊢
        omega
      · rw [pq_bd_le y]
        exact t
  · rw [pq_bd_gt hk]
    omega
  · intro i hi
    rw [pq_bd_gt hk] at hi
    rcases Nat.lt_or_ge i p with c1 | c1
    · obtain ⟨q1, q2, q3⟩ := h.2.2.2 i (by omega)
      have c2 : K i ≤ k := by
        rcases Nat.lt_or_ge k (K i) with z | z
        · have := hg (K i) z (by omega)
          omega
        · exact z
      rw [show pq_Kd K p g i = K i from if_pos c1, pq_bd_le c2]
      refine ⟨q1, q2, ?_⟩
      rcases Nat.lt_or_ge k (K i + 1) with y | y
      · rw [pq_bd_gt y]
        have := hg (K i + 1) y (by omega)
        omega
      · rw [pq_bd_le y]
        exact q3
    · obtain ⟨q1, q2, q3⟩ := h.2.2.2 (i + g) (by omega)
      have e : pq_Kd K p g i = K (i + g) := if_neg (by omega)
      have c2 : k < K (i + g) + 1 := by
        rcases Nat.lt_or_ge k (K (i + g) + 1) with z | z
        · exact z
        · have := pq_mono h z (by omega)
          omega
      rw [e, pq_bd_gt c2]
      refine ⟨q1, ?_, by omega⟩
      rcases Nat.lt_or_ge k (K (i + g)) with y | y
      · rw [pq_bd_gt y]
        omega
      · rw [pq_bd_le y]
        have e2 : K (i + g) = k := by omega
        rw [e2]
        omega
/-- a key that isn't the key's own stretch -/
theorem pq_own {b K : Nat → Nat} {k i : Nat} (h : pq_S b K) (hi : i < b 16) (e : K i = k) : k < 16 ∧ b k ≤ i ∧ i < b (k + 1) := by
  subst e
  exact h.2.2.2 i hi
theorem pq_bi_fr {b : Nat → Nat} {k j : Nat} (hj : j ≠ k) (e : b j = b (j + 1)) : pq_bi b k j = pq_bi b k (j + 1) := by
  unfold pq_bi
  split <;> split <;> omega
theorem pq_bd_fr {b : Nat → Nat} {k g j : Nat} (hj : j ≠ k) (e : b j = b (j + 1)) : pq_bd b k g j = pq_bd b k g (j + 1) := by
  unfold pq_bd
  split <;> split <;> omega
theorem pq_bd_own {b : Nat → Nat} {k : Nat} (hb : b k ≤ b (k + 1)) : pq_bd b k (b (k + 1) - b k) k = pq_bd b k (b (k + 1) - b k) (k + 1) := by
  rw [pq_bd_le (Nat.le_refl k), pq_bd_gt (show k < k + 1 by omega)]
  omega
end
section
/-! the arrays of a state against the picture -/
theorem pq_ix (c s i : Nat) : nI c * nI s + nI i = nI (c * s + i) := by rw [pk_mul, nI_add]
theorem pq_neg {a g : Nat} (h : g ≤ a) : nI a + (-(nI g)) = nI (a - g) := by
  rw [← Int32.sub_eq_add_neg, pk_sub h]
/-- stream s -/
def pq_R (s : Nat) (b K : Nat → Nat) (a1 a3 a4 : Nat → Int32) : Prop := pq_S b K ∧ (∀ k, k ≤ 16 → a4 (17 * s + k) = nI (b k)) ∧ a3 s = nI (b 16) ∧ (∀ i, i < b 16 → a1 (40 * s + i) = nI (K i))
/-- both streams -/
def pq_A (B KK : Nat → Nat → Nat) (a1 a3 a4 : Nat → Int32) : Prop := ∀ s, s < 2 → pq_R s (B s) (KK s) a1 a3 a4
def pq_up (B : Nat → Nat → Nat) (s : Nat) (b : Nat → Nat) : Nat → Nat → Nat := fun t => if t = s then b else B t
theorem pq_up_s {B : Nat → Nat → Nat} {s : Nat} {b : Nat → Nat} : pq_up B s b s = b := if_pos rfl
theorem pq_up_n {B : Nat → Nat → Nat} {s t : Nat} {b : Nat → Nat} (h : t ≠ s) : pq_up B s b t = B t := if_neg h
theorem pq_A_ins {B KK : Nat → Nat → Nat} {a1 a3 a4 a1' a3' a4' : Nat → Int32} {s k p : Nat} (hA : pq_A B KK a1 a3 a4) (hs : s < 2) (hk : k < 16) (h1 : B s k ≤ p) (h2 : p ≤ B s (k + 1)) (hr : B s 16 < 40)
    (e1 : ∀ j, a1' j = if j = 40 * s + p then nI k else if 40 * s + p < j ∧ j ≤ 40 * s + B s 16 then a1 (j - 1) else a1 j)
    (e3 : ∀ t, a3' t = if t = s then a3 t + 1 else a3 t)
    (e4 : ∀ j, a4' j = if 17 * s + k < j ∧ j ≤ 17 * s + 16 then a4 j + 1 else a4 j) :
    pq_A (pq_up B s (pq_bi (B s) k)) (pq_up KK s (pq_Ki (KK s) p k)) a1' a3' a4' := by
  intro t ht
  by_cases c : t = s
  · subst c
    rw [pq_up_s, pq_up_s]
    obtain ⟨g1, g2, g3, g4⟩ := hA t ht
    have hm1 : B t (k + 1) ≤ B t 16 := pq_mono g1 (by omega) (by omega)
    refine ⟨pq_insS g1 hk h1 h2 hr, ?_, ?_, ?_⟩
    · intro j hj
      rw [e4, g2 j hj]
      rcases Nat.lt_or_ge k j with z | z
      · rw [if_pos (by omega), pq_bi_gt z, nI_1]
      · rw [if_neg (by omega), pq_bi_le z]
    · rw [e3, if_pos rfl, g3, pq_bi_gt hk, nI_1]
    · intro i hi
      rw [pq_bi_gt hk] at hi
      rw [e1]
      unfold pq_Ki
      rcases Nat.lt_or_ge i p with c1 | c1
      · rw [if_neg (by omega), if_neg (by omega), if_pos c1]
        exact g4 i (by omega)
      · rcases Nat.eq_or_lt_of_le c1 with c3 | c3
        · rw [if_pos (by omega), if_neg (by omega), if_pos (by omega)]
        · rw [if_neg (by omega), if_pos (by omega), if_neg (by omega), if_neg (by omega)]
          rw [show 40 * t + i - 1 = 40 * t + (i - 1) by omega]
          exact g4 (i - 1) (by omega)
  · rw [pq_up_n c, pq_up_n c]
    obtain ⟨g1, g2, g3, g4⟩ := hA t ht
    have hc := g1.2.2.1
    obtain ⟨r1, r2, r3, r4⟩ := hA s hs
    have hm1 : B s (k + 1) ≤ B s 16 := pq_mono r1 (by omega) (by omega)
    refine ⟨g1, ?_, ?_, ?_⟩
    · intro j hj
      rw [e4, if_neg (by omega)]
      exact g2 j hj
    · rw [e3, if_neg c]
      exact g3
    · intro i hi
      rw [e1, if_neg (by omega), if_neg (by omega)]
      exact g4 i hi
theorem pq_A_del {B KK : Nat → Nat → Nat} {a1 a3 a4 a1' a3' a4' : Nat → Int32} {s k p g : Nat} (hA : pq_A B KK a1 a3 a4) (hs : s < 2) (hk : k < 16) (h1 : B s k ≤ p) (h2 : p + g ≤ B s (k + 1))
    (e1 : ∀ j, a1' j = if 40 * s + p ≤ j ∧ j + g < 40 * s + B s 16 then a1 (j + g) else a1 j)
    (e3 : ∀ t, a3' t = if t = s then a3 t - nI g else a3 t)
    (e4 : ∀ j, a4' j = if 17 * s + k < j ∧ j ≤ 17 * s + 16 then a4 j + (-(nI g)) else a4 j) :
    pq_A (pq_up B s (pq_bd (B s) k g)) (pq_up KK s (pq_Kd (KK s) p g)) a1' a3' a4' := by
  intro t ht
  by_cases c : t = s
  · subst c
    rw [pq_up_s, pq_up_s]
    obtain ⟨g1, g2, g3, g4⟩ := hA t ht
    have hm1 : B t (k + 1) ≤ B t 16 := pq_mono g1 (by omega) (by omega)
    refine ⟨pq_delS g1 hk h1 h2, ?_, ?_, ?_⟩
    · intro j hj
      rw [e4, g2 j hj]
      rcases Nat.lt_or_ge k j with z | z
      · have := pq_mono g1 (show k + 1 ≤ j by omega) hj
        rw [if_pos (by omega), pq_bd_gt z, pq_neg (by omega)]
      · rw [if_neg (by omega), pq_bd_le z]
    · rw [e3, if_pos rfl, g3, pq_bd_gt hk, pk_sub (by omega)]
    · intro i hi
      rw [pq_bd_gt hk] at hi
      rw [e1]
      unfold pq_Kd
      rcases Nat.lt_or_ge i p with c1 | c1
      · rw [if_neg (by omega), if_pos c1]
        exact g4 i (by omega)
      · rw [if_pos (by omega), if_neg (by omega)]
        rw [show 40 * t + i + g = 40 * t + (i + g) by omega]
        exact g4 (i + g) (by omega)
  · rw [pq_up_n c, pq_up_n c]
    obtain ⟨g1, g2, g3, g4⟩ := hA t ht
    have hc := g1.2.2.1
    obtain ⟨r1, r2, r3, r4⟩ := hA s hs
    have hc2 := r1.2.2.1
    refine ⟨g1, ?_, ?_, ?_⟩
    · intro j hj
      rw [e4, if_neg (by omega)]
      exact g2 j hj
    · rw [e3, if_neg c]
      exact g3
    · intro i hi
      rw [e1, if_neg (by omega)]
      exact g4 i hi
/-- where an empty stretch stays empty -/
def pq_E (B : Nat → Nat → Nat) (j : Nat) : Prop := ∀ s, s < 2 → B s j = B s (j + 1)
theorem pq_E_bi {B : Nat → Nat → Nat} {s k j : Nat} (hj : j ≠ k) (h : pq_E B j) : pq_E (pq_up B s (pq_bi (B s) k)) j := by
  intro t ht
  by_cases c : t = s
  · subst c
    rw [pq_up_s]
    exact pq_bi_fr hj (h t ht)
  · rw [pq_up_n c]
    exact h t ht
theorem pq_E_bd {B : Nat → Nat → Nat} {s k g j : Nat} (hj : j ≠ k) (h : pq_E B j) : pq_E (pq_up B s (pq_bd (B s) k g)) j := by
  intro t ht
  by_cases c : t = s
  · subst c
    rw [pq_up_s]
    exact pq_bd_fr hj (h t ht)
  · rw [pq_up_n c]
    exact h t ht
/-- a key shut in both streams -/
def pq_sh (a6 : Nat → Int32) (k : Nat) : Prop := ¬ a6 k = 0 ∧ ¬ a6 (16 + k) = 0
/-- what is put out: n keys, shut in both streams, no two alike -/
def pq_O (n : Nat) (o : Nat → Nat) (a6 a7 : Nat → Int32) : Prop := n ≤ 16 ∧ (∀ i, i < n → a7 i = nI (o i) ∧ o i < 16 ∧ pq_sh a6 (o i)) ∧ (∀ i j, i < n → j < n → o i = o j → i = j)
/-- the whole, between calls -/
def pq_V (f0 : Int32) (a1 a3 a4 a6 a7 : Nat → Int32) : Prop := ∃ (B KK : Nat → Nat → Nat) (n : Nat) (o : Nat → Nat), f0 = nI n ∧ pq_A B KK a1 a3 a4 ∧ (∀ k, k < 16 → pq_sh a6 k → pq_E B k) ∧ pq_O n o a6 a7
end
section
/-! the small methods, and the loops that store -/
section
variable {f0 f1 f2 : Int32} {a1 a2 a3 a4 a5 a6 a7 a8 a9 a10 a11 : Nat → Int32}
theorem pq_if {c d : Prop} [Decidable c] [Decidable d] {x y : Int32} (e : c ↔ d) : (if c then x else y) = if d then x else y := by
  by_cases h : c
  · rw [if_pos h, if_pos (e.mp h)]
  · rw [if_neg h, if_neg (fun z => h (e.mpr z))]
theorem pq_isS {post : Int32 → Prop} {u : St2} {s : Nat} (hs : s < 2) (H : post 1) : wpX_isStream post u (nI s) := by
  rcases (show s = 0 ∨ s = 1 by omega) with rfl | rfl
  · exact br_t rfl H
  · exact br_f (by decide) (br_t rfl H)
theorem pq_isK {post : Int32 → Prop} {u : St2} {k : Nat} (hk : k < 16) (H : post 1) : wpX_isKey post u (nI k) :=
  br_f (nI_pos (by omega)) (pk_le 16 k (fun z => absurd z (by omega)) (fun _ => H))
theorem pq_countOf {post : Int32 → Prop} {s k : Nat} {b : Nat → Nat} (hs : s < 2) (hk : k < 16) (h4 : ∀ k, k ≤ 16 → a4 (17 * s + k) = nI (b k)) (hb : b k ≤ b (k + 1)) (H : post (nI (b (k + 1) - b k))) : wpX_countOf post (f0, f1, f2, a1, a2, a3, a4, a5, a6, a7, a8, a9, a10, a11) (nI s) (nI k) := by
  have e0 : (17 : Int32) * nI s + nI k = nI (17 * s + k) := pq_ix 17 s k
  have e1 : (17 : Int32) * nI s + nI k + 1 = nI (17 * s + k + 1) := by rw [e0, nI_1]
  have g0 := h4 k (by omega)
  have g1 : a4 (17 * s + k + 1) = nI (b (k + 1)) := h4 (k + 1) (by omega)
  refine ⟨pk_in (17 * s + k + 1) 34 (by omega) e1, pk_in (17 * s + k) 34 (by omega) e0, ?_⟩
  rw [pk_cl (17 * s + k + 1) e1, pk_cl (17 * s + k) e0, g0, g1, pk_sub hb]
  exact H
theorem pq_pairsOf {post : Int32 → Prop} {k : Nat} {B KK : Nat → Nat → Nat} (hk : k < 16) (hA : pq_A B KK a1 a3 a4) (H : post (nI (B 0 (k + 1) - B 0 k) * nI (B 1 (k + 1) - B 1 k))) : wpX_pairsOf post (f0, f1, f2, a1, a2, a3, a4, a5, a6, a7, a8, a9, a10, a11) (nI k) := by
  obtain ⟨r1, r2, r3, r4⟩ := hA 0 (by omega)
  obtain ⟨g1, g2, g3, g4⟩ := hA 1 (by omega)
  unfold wpX_pairsOf
  dsimp only
  refine pq_countOf (s := 0) (by omega) hk r2 (r1.2.1 k hk) ?_
  exact pq_countOf (s := 1) (by omega) hk g2 (g1.2.1 k hk) H
theorem pq_heldWith {post : Int32 → Prop} {s k : Nat} {B KK : Nat → Nat → Nat} (hs : s < 2) (hk : k < 16) (hA : pq_A B KK a1 a3 a4) (H : post (nI (B s (k + 1) - B s k))) : wpX_heldWith post (f0, f1, f2, a1, a2, a3, a4, a5, a6, a7, a8, a9, a10, a11) (nI s) (nI k) := by
  obtain ⟨r1, r2, r3, r4⟩ := hA s hs
  unfold wpX_heldWith
  dsimp only
  refine pq_isS hs ?_
  refine br_f (by decide) ?_
  refine pq_isK hk ?_
  refine br_f (by decide) ?_
  exact pq_countOf hs hk r2 (r1.2.1 k hk) H
theorem pq_pairs {post : Int32 → Prop} {k : Nat} {B KK : Nat → Nat → Nat} (hk : k < 16) (hA : pq_A B KK a1 a3 a4) (H : post (nI (B 0 (k + 1) - B 0 k) * nI (B 1 (k + 1) - B 1 k))) : wpX_pairs post (f0, f1, f2, a1, a2, a3, a4, a5, a6, a7, a8, a9, a10, a11) (nI k) := by
  unfold wpX_pairs
  dsimp only
  refine pq_isK hk ?_
  refine br_f (by decide) ?_
  exact pq_pairsOf hk hA H
theorem pq_closed {post : Int32 → Prop} {s k : Nat} (hs : s < 2) (hk : k < 16) (H0 : a6 (16 * s + k) = 0 → post 0) (H1 : ¬ a6 (16 * s + k) = 0 → post 1) : wpX_closed post (f0, f1, f2, a1, a2, a3, a4, a5, a6, a7, a8, a9, a10, a11) (nI s) (nI k) := by
  have e0 : (16 : Int32) * nI s + nI k = nI (16 * s + k) := pq_ix 16 s k
  unfold wpX_closed
  dsimp only
  refine pq_isS hs ?_
  refine br_f (by decide) ?_
  refine pq_isK hk ?_
  refine br_f (by decide) ⟨pk_in (16 * s + k) 32 (by omega) e0, ?_⟩
  rw [pk_cl (16 * s + k) e0]
  exact br_c H0 H1
theorem pq_shift {post : St1 → Prop} {s k : Nat} {x : Int32} (hs : s < 2) (hk : k < 16) (H : ∀ a : Nat → Int32, (∀ j, a j = if 17 * s + k < j ∧ j ≤ 17 * s + 16 then a4 j + x else a4 j) → post (f0, f1, f2, a1, a2, a3, a, a5, a6, a7, a8, a9, a10, a11)) : wpX_shiftBegins post (f0, f1, f2, a1, a2, a3, a4, a5, a6, a7, a8, a9, a10, a11) (nI s) (nI k) x := by
  unfold wpX_shiftBegins
  refine nm_r (nI_1 k) ?_
  refine pk_loop (fun n i a => wX_shiftBegins_5 post (nI s) x f0 f1 f2 n (nI i) a1 a2 a3 a a5 a6 a7 a8 a9 a10 a11) (fun i a => k < i ∧ ∀ j, a j = if 17 * s + k < j ∧ j < 17 * s + i then a4 j + x else a4 j) 17 (k + 1) a4 (by omega) ?_ ?_ ?_
  · refine ⟨by omega, fun j => ?_⟩
    rw [if_neg (by omega)]
  · intro n a h
    refine pk_lt 16 17 (fun _ => H a ?_) (fun z => absurd z (by omega))
    intro j
    rw [h.2 j]
    exact pq_if (by omega)
  · intro n i a hi h hw
    have e : (17 : Int32) * nI s + nI i = nI (17 * s + i) := pq_ix 17 s i
    obtain ⟨hl, h⟩ := h
    refine pk_lt 16 i (fun z => absurd z (by omega)) (fun _ => ⟨pk_in (17 * s + i) 34 (by omega) e, pk_in (17 * s + i) 34 (by omega) e, nm_r (e' := upd a (17 * s + i) (a (17 * s + i) + x)) (by rw [pk_cl (17 * s + i) e]) (nm_r (nI_1 i) (hw _ ⟨by omega, fun j => ?_⟩))⟩)
    by_cases c : j = 17 * s + i
    · rw [c, pk_us, h, if_neg (by omega), if_pos (by omega)]
    · rw [pk_un c, h j]
      exact pq_if (by omega)
/-- a row moved down by g places: one step -/
theorem pq_dn {a c : Nat → Int32} {lo g i : Nat} (hl : lo + g ≤ i) (h : ∀ j, c j = if lo ≤ j ∧ j + g < i then a (j + g) else a j) : ∀ j, upd c (i - g) (c i) j = if lo ≤ j ∧ j + g < i + 1 then a (j + g) else a j := by
  intro j
  by_cases z : j = i - g
  · rw [z, pk_us, h, if_neg (by omega), if_pos (by omega), show i - g + g = i by omega]
  · rw [pk_un z, h j]
    exact pq_if (by omega)
/-- a row moved up by one place: one step -/
theorem pq_upw {a c : Nat → Int32} {p e i : Nat} (hi : p + (i + 1) ≤ e) (h : ∀ j, c j = if p + (i + 1) < j ∧ j ≤ e then a (j - 1) else a j) : ∀ j, upd c (p + i + 1) (c (p + i)) j = if p + i < j ∧ j ≤ e then a (j - 1) else a j := by
  intro j
  by_cases z : j = p + i + 1
  · rw [z, pk_us, h, if_neg (by omega), if_pos (by omega), show p + i + 1 - 1 = p + i by omega]
  · rw [pk_un z, h j]
    exact pq_if (by omega)
theorem pq_drop35 {post : St1 → Prop} {s k p g m : Nat} (hs : s < 2) (hk : k < 16) (hm : m ≤ 40) (hp : p + g ≤ m) (h3 : a3 s = nI m)
    (H : ∀ b1 b2 b4 : Nat → Int32, (∀ j, b1 j = if 40 * s + p ≤ j ∧ j + g < 40 * s + m then a1 (j + g) else a1 j) → (∀ j, b4 j = if 17 * s + k < j ∧ j ≤ 17 * s + 16 then a4 j + (-(nI g)) else a4 j) → post (f0, f1, f2, b1, b2, upd a3 s (a3 s - nI g), b4, upd a5 (16 * s + k) 0, a6, a7, a8, a9, a10, a11)) :
    ∃ n, wX_drop_35 post (nI s) (nI k) (nI g) (nI (40 * s)) f0 f1 f2 n (nI (40 * s + p + g)) a1 a2 a3 a4 a5 a6 a7 a8 a9 a10 a11 := by
  have e3 : nI (40 * s) + a3 s = nI (40 * s + m) := by rw [h3, nI_add]
  have ec : (nI s).toNatClampNeg = s := nI_clamp (by omega)
  have e6 : (16 : Int32) * nI s + nI k = nI (16 * s + k) := pq_ix 16 s k
  refine pk_loop (σ := (Nat → Int32) × (Nat → Int32)) (fun n i u => wX_drop_35 post (nI s) (nI k) (nI g) (nI (40 * s)) f0 f1 f2 n (nI i) u.1 u.2 a3 a4 a5 a6 a7 a8 a9 a10 a11) (fun i u => 40 * s + p + g ≤ i ∧ ∀ j, u.1 j = if 40 * s + p ≤ j ∧ j + g < i then a1 (j + g) else a1 j) (40 * s + m) (40 * s + p + g) (a1, a2) (by omega) ?_ ?_ ?_
  · refine ⟨Nat.le_refl _, fun j => ?_⟩
    show a1 j = _
    rw [if_neg (by omega)]
  · intro n u h
    refine ⟨pk_in s 2 hs, pk_le (40 * s + m) (40 * s + m) (fun _ => ⟨pk_in s 2 hs, pk_in s 2 hs, nm_r (e' := upd a3 s (a3 s - nI g)) (by rw [ec]) ⟨pk_in (16 * s + k) 32 (by omega) e6, nm_r (e' := upd a5 (16 * s + k) 0) (by rw [pk_cl (16 * s + k) e6]) ?_⟩⟩) (fun z => absurd z (by omega)) (by rw [ec]; exact e3)⟩
    exact pq_shift hs hk (fun b4 h4 => H u.1 u.2 b4 h.2 h4)
  · intro n i u hi h hw
    obtain ⟨hl, h⟩ := h
    have es : nI i - nI g = nI (i - g) := pk_sub (by omega)
    have ei : (nI i).toNatClampNeg = i := nI_clamp (by omega)
    refine ⟨pk_in s 2 hs, pk_le (40 * s + m) i (fun z => absurd z (by omega)) (fun _ => ⟨pk_in i 80 (by omega), pk_in (i - g) 80 (by omega) es, nm_r (e' := upd u.1 (i - g) (u.1 i)) (by rw [pk_cl (i - g) es, ei]) ⟨pk_in i 80 (by omega), pk_in (i - g) 80 (by omega) es, nm_e (nm_r (nI_1 i) (hw (_, _) ⟨by omega, pq_dn (by omega) h⟩))⟩⟩) (by rw [ec]; exact e3)⟩
theorem pq_retr79 {post : Int32 → St1 → Prop} {s k p m : Nat} {v : Int32} (hs : s < 2) (hk : k < 16) (hm : m ≤ 40) (hp : p + 1 ≤ m)
    (H : ∀ (r : Int32) (b1 b2 b4 b5 : Nat → Int32), (∀ j, b1 j = if 40 * s + p ≤ j ∧ j + 1 < 40 * s + m then a1 (j + 1) else a1 j) → (∀ j, b4 j = if 17 * s + k < j ∧ j ≤ 17 * s + 16 then a4 j + (-(nI 1)) else a4 j) → post r (f0, f1, f2, b1, b2, upd a3 s (a3 s - nI 1), b4, b5, a6, a7, a8, a9, a10, a11)) :
    ∃ n, wX_retract_79 post (nI s) (nI k) v (nI (40 * s + m)) f0 f1 f2 n (nI (40 * s + p + 1)) a1 a2 a3 a4 a5 a6 a7 a8 a9 a10 a11 := by
  have ec : (nI s).toNatClampNeg = s := nI_clamp (by omega)
  have e6 : (16 : Int32) * nI s + nI k = nI (16 * s + k) := pq_ix 16 s k
  refine pk_loop (σ := (Nat → Int32) × (Nat → Int32)) (fun n i u => wX_retract_79 post (nI s) (nI k) v (nI (40 * s + m)) f0 f1 f2 n (nI i) u.1 u.2 a3 a4 a5 a6 a7 a8 a9 a10 a11) (fun i u => 40 * s + p + 1 ≤ i ∧ ∀ j, u.1 j = if 40 * s + p ≤ j ∧ j + 1 < i then a1 (j + 1) else a1 j) (40 * s + m) (40 * s + p + 1) (a1, a2) (by omega) ?_ ?_ ?_
  · refine ⟨Nat.le_refl _, fun j => ?_⟩
    show a1 j = _
    rw [if_neg (by omega)]
  · intro n u h
    refine pk_le (40 * s + m) (40 * s + m) (fun _ => ⟨pk_in s 2 hs, pk_in s 2 hs, nm_r (e' := upd a3 s (a3 s - nI 1)) (by rw [ec]; rfl) ⟨pk_in (16 * s + k) 32 (by omega) e6, pk_in (16 * s + k) 32 (by omega) e6, nm_e ?_⟩⟩) (fun z => absurd z (by omega))
    exact pq_shift hs hk (fun b4 h4 => ⟨pk_in s 2 hs, H _ u.1 u.2 b4 _ h.2 h4⟩)
  · intro n i u hi h hw
    obtain ⟨hl, h⟩ := h
    have es : nI i - 1 = nI (i - 1) := pk_sub (b := 1) (by omega)
    have ei : (nI i).toNatClampNeg = i := nI_clamp (by omega)
    refine pk_le (40 * s + m) i (fun z => absurd z (by omega)) (fun _ => ⟨pk_in i 80 (by omega), pk_in (i - 1) 80 (by omega) es, nm_r (e' := upd u.1 (i - 1) (u.1 i)) (by rw [pk_cl (i - 1) es, ei]) ⟨pk_in i 80 (by omega), pk_in (i - 1) 80 (by omega) es, nm_e (nm_r (nI_1 i) (hw (_, _) ⟨by omega, pq_dn (by omega) h⟩))⟩⟩)
theorem pq_feed91 {post : Int32 → St1 → Prop} {s k p m : Nat} {v : Int32} (hs : s < 2) (hk : k < 16) (hm : m < 40) (hp : p ≤ m)
    (H : ∀ (r : Int32) (b1 b2 b4 b5 : Nat → Int32), (∀ j, b1 j = if j = 40 * s + p then nI k else if 40 * s + p < j ∧ j ≤ 40 * s + m then a1 (j - 1) else a1 j) → (∀ j, b4 j = if 17 * s + k < j ∧ j ≤ 17 * s + 16 then a4 j + 1 else a4 j) → post r (f0, f1, f2, b1, b2, upd a3 s (a3 s + 1), b4, b5, a6, a7, a8, a9, a10, a11)) :
    ∃ n, wX_feed_91 post (nI s) (nI k) v (nI (40 * s + p)) f0 f1 f2 n (nI (40 * s + m)) a1 a2 a3 a4 a5 a6 a7 a8 a9 a10 a11 := by
  have ec : (nI s).toNatClampNeg = s := nI_clamp (by omega)
  have e6 : (16 : Int32) * nI s + nI k = nI (16 * s + k) := pq_ix 16 s k
  have ep : (nI (40 * s + p)).toNatClampNeg = 40 * s + p := nI_clamp (by omega)
  have t := pk_loopD (σ := (Nat → Int32) × (Nat → Int32)) (fun n i u => wX_feed_91 post (nI s) (nI k) v (nI (40 * s + p)) f0 f1 f2 n (nI (40 * s + p + i)) u.1 u.2 a3 a4 a5 a6 a7 a8 a9 a10 a11) (fun i u => 40 * s + p + i ≤ 40 * s + m ∧ ∀ j, u.1 j = if 40 * s + p + i < j ∧ j ≤ 40 * s + m then a1 (j - 1) else a1 j) ?_ ?_ (m - p) (a1, a2) ?_
  · rw [show 40 * s + p + (m - p) = 40 * s + m by omega] at t
    exact ⟨_, t⟩
  · intro n u h
    refine pk_le (40 * s + p) (40 * s + p) (fun _ => ⟨pk_in (40 * s + p) 80 (by omega), nm_r (e' := upd u.1 (40 * s + p) (nI k)) (by rw [ep]) ⟨pk_in (40 * s + p) 80 (by omega), nm_e ⟨pk_in s 2 hs, pk_in s 2 hs, nm_r (e' := upd a3 s (a3 s + 1)) (by rw [ec]) ⟨pk_in (16 * s + k) 32 (by omega) e6, pk_in (16 * s + k) 32 (by omega) e6, nm_e ?_⟩⟩⟩⟩) (fun z => absurd z (by omega))
    refine pq_shift hs hk (fun b4 h4 => ⟨pk_in s 2 hs, H _ _ _ b4 _ (fun j => ?_) h4⟩)
    by_cases z : j = 40 * s + p
    · rw [z, pk_us, if_pos rfl]
    · rw [pk_un z, if_neg z]
      exact h.2 j
  · intro n i u h hw
    obtain ⟨hl, h⟩ := h
    have es : nI (40 * s + p + (i + 1)) - 1 = nI (40 * s + p + i) := nI_pred (40 * s + p + i)
    have em : nI (40 * s + p + (i + 1)) + (-1) = nI (40 * s + p + i) := pk_m1 (40 * s + p + i)
    have ei : (nI (40 * s + p + (i + 1))).toNatClampNeg = 40 * s + p + i + 1 := nI_clamp (n := 40 * s + p + i + 1) (by omega)
    refine pk_le (40 * s + p + (i + 1)) (40 * s + p) (fun z => absurd z (by omega)) (fun _ => ⟨pk_in (40 * s + p + i) 80 (by omega) es, pk_in (40 * s + p + (i + 1)) 80 (by omega), nm_r (e' := upd u.1 (40 * s + p + i + 1) (u.1 (40 * s + p + i))) (by rw [pk_cl (40 * s + p + i) es, ei]) ⟨pk_in (40 * s + p + i) 80 (by omega) es, pk_in (40 * s + p + (i + 1)) 80 (by omega), nm_e (nm_r em (hw (_, _) ⟨by omega, pq_upw (by omega) h⟩))⟩⟩)
  · refine ⟨by omega, fun j => ?_⟩
    show a1 j = _
    rw [if_neg (by omega)]
theorem pq_place41 {post : Int32 → Prop} {lo hi : Nat} {v : Int32} (hl : lo ≤ hi) (hh : hi ≤ 80) (H : ∀ p, lo ≤ p → p ≤ hi → post (nI p)) : ∃ n, wX_place_41 post v f0 f1 f2 a1 a2 a3 a4 a5 a6 a7 a8 a9 a10 a11 n (nI lo) (nI hi) 0 := by
  refine pk_loop (σ := Nat × Nat) (fun n i u => wX_place_41 post v f0 f1 f2 a1 a2 a3 a4 a5 a6 a7 a8 a9 a10 a11 n (nI u.1) (nI u.2) (nI i)) (fun i u => lo ≤ u.1 ∧ u.1 ≤ u.2 ∧ u.2 ≤ hi) 8 0 (lo, hi) (by omega) ⟨Nat.le_refl _, hl, Nat.le_refl _⟩ ?_ ?_
  · intro n u h
    exact pk_le 8 8 (fun _ => H u.1 h.1 (by omega)) (fun z => absurd z (by omega))
  · intro n i u hi h hw
    have hm : (nI u.1 + nI u.2) >>> ((1 : Int32) &&& 31) = nI ((u.1 + u.2) / 2) := by
      rw [nI_add]
      exact pk_shrN (by omega) _ 1 (by decide)
    refine pk_le 8 i (fun z => absurd z (by omega)) (fun _ => pk_le u.2 u.1 (fun _ => H u.1 h.1 (by omega)) (fun z => nm_r hm ⟨pk_in ((u.1 + u.2) / 2) 80 (by omega), br_c (fun _ => nm_r (nI_1 i) (hw (u.1, (u.1 + u.2) / 2) ?_)) (fun _ => nm_r (nI_1 _) (nm_r (nI_1 i) (hw ((u.1 + u.2) / 2 + 1, u.2) ?_)))⟩))
    · exact ⟨h.1, by show u.1 ≤ (u.1 + u.2) / 2; omega, by show (u.1 + u.2) / 2 ≤ _; omega⟩
    · exact ⟨by show lo ≤ (u.1 + u.2) / 2 + 1; omega, by show (u.1 + u.2) / 2 + 1 ≤ u.2; omega, h.2.2⟩
theorem pq_place {post : Int32 → Prop} {s k : Nat} {b : Nat → Nat} {v : Int32} (hs : s < 2) (hk : k < 16) (h4 : ∀ k, k ≤ 16 → a4 (17 * s + k) = nI (b k)) (hb : b k ≤ b (k + 1)) (hc : b (k + 1) ≤ 40) (H : ∀ p, b k ≤ p → p ≤ b (k + 1) → post (nI (40 * s + p))) : wpX_place post (f0, f1, f2, a1, a2, a3, a4, a5, a6, a7, a8, a9, a10, a11) (nI s) (nI k) v := by
  have e0 : (17 : Int32) * nI s + nI k = nI (17 * s + k) := pq_ix 17 s k
  have e1 : (17 : Int32) * nI s + nI k + 1 = nI (17 * s + k + 1) := by rw [e0, nI_1]
  have g0 := h4 k (by omega)
  have g1 : a4 (17 * s + k + 1) = nI (b (k + 1)) := h4 (k + 1) (by omega)
  have x0 : (40 : Int32) * nI s + a4 (17 * s + k) = nI (40 * s + b k) := by rw [g0]; exact pq_ix 40 s (b k)
  have x1 : (40 : Int32) * nI s + a4 (17 * s + k + 1) = nI (40 * s + b (k + 1)) := by rw [g1]; exact pq_ix 40 s (b (k + 1))
  refine ⟨pk_in (17 * s + k) 34 (by omega) e0, nm_r (e' := nI (40 * s + b k)) (by rw [pk_cl (17 * s + k) e0]; exact x0) ⟨pk_in (17 * s + k + 1) 34 (by omega) e1, nm_r (e' := nI (40 * s + b (k + 1))) (by rw [pk_cl (17 * s + k + 1) e1]; exact x1) ?_⟩⟩
  refine pq_place41 (by omega) (by omega) (fun p q1 q2 => ?_)
  rw [show p = 40 * s + (p - 40 * s) by omega]
  exact H (p - 40 * s) (by omega) (by omega)
theorem pq_spread {post : St1 → Prop} {x : Int32} (H : ∀ l h : Int32, post (f0, l, h, a1, a2, a3, a4, a5, a6, a7, a8, a9, a10, a11)) : wpX_spread post (f0, f1, f2, a1, a2, a3, a4, a5, a6, a7, a8, a9, a10, a11) x :=
  br_c (fun _ => br_c (fun _ => H _ _) (fun _ => H _ _)) (fun _ => br_c (fun _ => H _ _) (fun _ => H _ _))
end
end
section
/-! one bit of an int (turned from the kit's rows on bits) -/
def pq_bt (x : Int32) (i : Nat) : Bool := x.toBitVec.getLsbD i
theorem pq_b_or (x y : Int32) (i : Nat) : pq_bt (x ||| y) i = (pq_bt x i || pq_bt y i) := by unfold pq_bt; rw [Int32.toBitVec_or, BitVec.getLsbD_or]
theorem pq_b_and (x y : Int32) (i : Nat) : pq_bt (x &&& y) i = (pq_bt x i && pq_bt y i) := by unfold pq_bt; rw [Int32.toBitVec_and, BitVec.getLsbD_and]
theorem pq_b_0 (i : Nat) : pq_bt 0 i = false := BitVec.getLsbD_zero
theorem pq_s_l : ∀ n, n < 32 → ((nI n &&& 31).toBitVec.smod 32).toNat = n := by decide +kernel
theorem pq_b_shl (n : Nat) (hn : n < 32) (x : Int32) {i : Nat} (hi : i < 32) : pq_bt (x <<< (nI n &&& 31)) i = (decide (n ≤ i) && pq_bt x (i - n)) := by
  unfold pq_bt
  rw [Int32.toBitVec_shiftLeft]
  show (x.toBitVec <<< ((nI n &&& 31).toBitVec.smod 32).toNat).getLsbD i = _
  rw [pq_s_l n hn, BitVec.getLsbD_shiftLeft]
  rcases Nat.lt_or_ge i n with h | h
  · simp [h, Nat.not_le.mpr h]
  · simp [hi, h, Nat.not_lt.mpr h]
theorem pq_b_sshr (n : Nat) (hn : n < 32) (x : Int32) {i : Nat} (hi : i < 32) : pq_bt (x >>> (nI n &&& 31)) i = if n + i < 32 then pq_bt x (n + i) else pq_bt x 31 := by
  unfold pq_bt
  rw [Int32.toBitVec_shiftRight]
  show (x.toBitVec.sshiftRight ((nI n &&& 31).toBitVec.smod 32).toNat).getLsbD i = _
  rw [pq_s_l n hn, BitVec.getLsbD_sshiftRight, BitVec.msb_eq_getLsbD_last]
  simp [hi]
theorem pq_b_1 : ∀ u, u < 32 → pq_bt 1 u = true → u = 0 := by decide +kernel
/-- a key not seen yet -/
theorem pq_seen_no {x : Int32} {k : Nat} (hk : k < 32) (h : ¬ pq_bt x k = true) : ¬ ((x >>> (nI k &&& 31)) &&& 1) = 1 := by
  intro e
  have t : pq_bt ((x >>> (nI k &&& 31)) &&& 1) 0 = true := by
    rw [e]
    decide
  rw [pq_b_and, Bool.and_eq_true, pq_b_sshr k hk x (by omega), if_pos (by omega), Nat.add_zero] at t
  exact h t.1
theorem pq_seen_or {x : Int32} {k t : Nat} (hk : k < 32) (ht : t < 32) (h : pq_bt (x ||| ((1 : Int32) <<< (nI k &&& 31))) t = true) : pq_bt x t = true ∨ t = k := by
  rw [pq_b_or, Bool.or_eq_true, pq_b_shl k hk 1 ht, Bool.and_eq_true, decide_eq_true_eq] at h
  rcases h with h | h
  · exact Or.inl h
  · have := pq_b_1 (t - k) (by omega) h.2
    exact Or.inr (by omega)
end
section
/-! the methods that change a state -/
theorem pq_sh_of {a6 : Nat → Int32} {s k : Nat} (hs : s < 2) (h : ¬ a6 (16 * s + k) = 0) (h' : ¬ a6 (16 * (1 - s) + k) = 0) : pq_sh a6 k := by
  rcases (show s = 0 ∨ s = 1 by omega) with rfl | rfl
  · rw [show 16 * 0 + k = k by omega] at h
    exact ⟨h, h'⟩
  · rw [show 16 * (1 - 1) + k = k by omega] at h'
    exact ⟨h', h⟩
theorem pq_sh_get {a6 : Nat → Int32} {s k : Nat} (hs : s < 2) (h : pq_sh a6 k) : ¬ a6 (16 * s + k) = 0 := by
  rcases (show s = 0 ∨ s = 1 by omega) with rfl | rfl
  · rw [show 16 * 0 + k = k by omega]
    exact h.1
  · exact h.2
theorem pq_sh_up {a6 : Nat → Int32} {s k i : Nat} {x : Int32} (hs : s < 2) (hk : k < 16) (hi : i < 16) (h : k ≠ i) : pq_sh (upd a6 (16 * s + i) x) k ↔ pq_sh a6 k := by
  unfold pq_sh
  rw [pk_un (by omega), pk_un (by omega)]
theorem pq_O_add {n k : Nat} {o : Nat → Nat} {a6 a7 : Nat → Int32} (h : pq_O n o a6 a7) (hn : n < 16) (hk : k < 16) (hs : pq_sh a6 k) (hx : ∀ i, i < n → o i ≠ k) : pq_O (n + 1) (fun i => if i = n then k else o i) a6 (upd a7 n (nI k)) := by
  obtain ⟨h1, h2, h3⟩ := h
  refine ⟨by omega, fun i hi => ?_, fun i j hi hj e => ?_⟩
  · by_cases c : i = n
    · rw [c, pk_us]
      dsimp only
      rw [if_pos rfl]
      exact ⟨rfl, hk, hs⟩
    · rw [pk_un c]
      dsimp only
      rw [if_neg c]
      exact h2 i (by omega)
  · dsimp only at e
    by_cases c : i = n
    · by_cases d : j = n
      · omega
      · rw [if_pos c, if_neg d] at e
        exact absurd e.symm (hx j (by omega))
    · by_cases d : j = n
      · rw [if_neg c, if_pos d] at e
        exact absurd e (hx i (by omega))
      · rw [if_neg c, if_neg d] at e
        exact h3 i j (by omega) (by omega) e
theorem pq_upd_if {a : Nat → Int32} {s : Nat} {f : Int32 → Int32} : ∀ t, upd a s (f (a s)) t = if t = s then f (a t) else a t := by
  intro t
  by_cases c : t = s
  · rw [c, pk_us, if_pos rfl]
  · rw [pk_un c, if_neg c]
section
variable {f0 f1 f2 : Int32} {a1 a2 a3 a4 a5 a6 a7 a8 a9 a10 a11 : Nat → Int32}
theorem pq_drop {post : St1 → Prop} {s k : Nat} {B KK : Nat → Nat → Nat} (hs : s < 2) (hk : k < 16) (hA : pq_A B KK a1 a3 a4)
    (H : ∀ (B' KK' : Nat → Nat → Nat) (b1 b2 b3 b4 b5 : Nat → Int32), pq_A B' KK' b1 b3 b4 → B' s k = B' s (k + 1) → (∀ t, t ≠ s → B' t = B t) → (∀ j, j ≠ k → pq_E B j → pq_E B' j) → post (f0, f1, f2, b1, b2, b3, b4, b5, a6, a7, a8, a9, a10, a11)) :
    wpX_drop post (f0, f1, f2, a1, a2, a3, a4, a5, a6, a7, a8, a9, a10, a11) (nI s) (nI k) := by
  obtain ⟨r1, r2, r3, r4⟩ := hA s hs
  have hb := r1.2.1 k hk
  have hc := r1.2.2.1
  have hm : B s (k + 1) ≤ B s 16 := pq_mono r1 (by omega) (by omega)
  have e0 : (17 : Int32) * nI s + nI k = nI (17 * s + k) := pq_ix 17 s k
  unfold wpX_drop
  dsimp only
  refine pq_countOf hs hk r2 hb ?_
  refine nm_r (e' := nI (40 * s)) (pk_mul 40 s) ⟨pk_in (17 * s + k) 34 (by omega) e0, nm_r (e' := nI (40 * s + B s k)) (by rw [pk_cl (17 * s + k) e0, r2 k (by omega), nI_add]) (nm_r (e' := nI (40 * s + B s k + (B s (k + 1) - B s k))) (nI_add _ _) ?_)⟩
  refine pq_drop35 hs hk hc (by omega) r3 (fun b1 b2 b4 h1 h4 => ?_)
  refine H _ _ b1 b2 _ b4 _ (pq_A_del hA hs hk (Nat.le_refl _) (by omega) h1 (pq_upd_if (f := fun x => x - nI (B s (k + 1) - B s k))) h4) ?_ (fun t ht => pq_up_n ht) (fun j hj hE => pq_E_bd hj hE)
  rw [pq_up_s]
  exact pq_bd_own hb
theorem pq_fin105 {post : St1 → Prop} {k : Nat} {B KK : Nat → Nat → Nat} (hk : k < 16) (hA : pq_A B KK a1 a3 a4)
    (H : ∀ (B' KK' : Nat → Nat → Nat) (b1 b2 b3 b4 b5 : Nat → Int32), pq_A B' KK' b1 b3 b4 → pq_E B' k → (∀ j, j ≠ k → pq_E B j → pq_E B' j) → post (f0, f1, f2, b1, b2, b3, b4, b5, a6, a7, a8, a9, a10, a11)) :
    wX_finish_105 post (nI k) f0 f1 f2 a1 a2 a3 a4 a5 a6 a7 a8 a9 a10 a11 := by
  unfold wX_finish_105
  refine pq_drop (s := 0) (by omega) hk hA (fun B' KK' b1 b2 b3 b4 b5 g1 g2 g3 g4 => ?_)
  refine pq_drop (s := 1) (by omega) hk g1 (fun C' LL' c1 c2 c3 c4 c5 l1 l2 l3 l4 => ?_)
  refine H C' LL' c1 c2 c3 c4 c5 l1 (fun t ht => ?_) (fun j hj hE => l4 j hj (g4 j hj hE))
  rcases (show t = 0 ∨ t = 1 by omega) with rfl | rfl
  · rw [l3 0 (by omega)]
    exact g2
  · exact l2
theorem pq_extremes {post : St1 → Prop} {k : Nat} {B KK : Nat → Nat → Nat} (hk : k < 16) (hA : pq_A B KK a1 a3 a4) (c0 : B 0 k < B 0 (k + 1)) (c1 : B 1 k < B 1 (k + 1)) (H : ∀ l h : Int32, post (f0, l, h, a1, a2, a3, a4, a5, a6, a7, a8, a9, a10, a11)) : wpX_extremes post (f0, f1, f2, a1, a2, a3, a4, a5, a6, a7, a8, a9, a10, a11) (nI k) := by
  obtain ⟨r1, r2, r3, r4⟩ := hA 0 (by omega)
  obtain ⟨g1, g2, g3, g4⟩ := hA 1 (by omega)
  have m0 : B 0 (k + 1) ≤ B 0 16 := pq_mono r1 (by omega) (by omega)
  have m1 : B 1 (k + 1) ≤ B 1 16 := pq_mono g1 (by omega) (by omega)
  have n0 := r1.2.2.1
  have n1 := g1.2.2.1
  have x0 : a4 k = nI (B 0 k) := by
    have t := r2 k (by omega)
    rw [show 17 * 0 + k = k by omega] at t
    exact t
  have x1 : a4 (k + 1) = nI (B 0 (k + 1)) := by
    have t := r2 (k + 1) (by omega)
    rw [show 17 * 0 + (k + 1) = k + 1 by omega] at t
    exact t
  have y0 : a4 (17 + k) = nI (B 1 k) := g2 k (by omega)
  have y1 : a4 (17 + k + 1) = nI (B 1 (k + 1)) := g2 (k + 1) (by omega)
  have e0 : (nI k).toNatClampNeg = k := nI_clamp (by omega)
  have e1 : nI k + 1 = nI (k + 1) := nI_1 k
  have e2 : (17 : Int32) + nI k = nI (17 + k) := nI_add 17 k
  have e3 : (17 : Int32) + nI k + 1 = nI (17 + k + 1) := by rw [e2, nI_1]
  unfold wpX_extremes
  dsimp only
  refine ⟨pk_in k 34 (by omega), pk_in (B 0 k) 80 (by omega) (by rw [e0, x0]), nm_e ?_⟩
  refine ⟨pk_in (k + 1) 34 (by omega) e1, pk_in (B 0 (k + 1) - 1) 80 (by omega) (by rw [pk_cl (k + 1) e1, x1]; exact pk_sub (b := 1) (by omega)), nm_e ?_⟩
  refine ⟨pk_in (17 + k) 34 (by omega) e2, pk_in (40 + B 1 k) 80 (by omega) (by rw [pk_cl (17 + k) e2, y0]; exact nI_add 40 _), nm_e ?_⟩
  refine ⟨pk_in (17 + k + 1) 34 (by omega) e3, pk_in (40 + B 1 (k + 1) - 1) 80 (by omega) (by rw [pk_cl (17 + k + 1) e3, y1]; exact (congrArg (· - 1) (nI_add 40 (B 1 (k + 1)))).trans (pk_sub (b := 1) (by omega))), nm_e (nm_e ?_)⟩
  refine pq_spread (fun l h => ?_)
  refine pq_spread (fun l h => ?_)
  refine pq_spread (fun l h => ?_)
  exact H l h
theorem pq_finish {post : St1 → Prop} {k n : Nat} {o : Nat → Nat} {B KK : Nat → Nat → Nat} (hk : k < 16) (hA : pq_A B KK a1 a3 a4) (hO : pq_O n o a6 a7) (hx : ∀ i, i < n → o i ≠ k) (hsh : pq_sh a6 k) (hE : ∀ j, j < 16 → j ≠ k → pq_sh a6 j → pq_E B j)
    (H : ∀ (g0 g1 g2 : Int32) (b1 b2 b3 b4 b5 b7 b8 b9 b10 b11 : Nat → Int32), pq_V g0 b1 b3 b4 a6 b7 → post (g0, g1, g2, b1, b2, b3, b4, b5, a6, b7, b8, b9, b10, b11)) :
    wpX_finish post (nI n, f1, f2, a1, a2, a3, a4, a5, a6, a7, a8, a9, a10, a11) (nI k) := by
  have m0 : B 0 (k + 1) - B 0 k ≤ 40 := by
    have t := pq_mono (hA 0 (by omega)).1 (show k + 1 ≤ 16 by omega) (by omega)
    have := (hA 0 (by omega)).1.2.2.1
    omega
  have m1 : B 1 (k + 1) - B 1 k ≤ 40 := by
    have t := pq_mono (hA 1 (by omega)).1 (show k + 1 ≤ 16 by omega) (by omega)
    have := (hA 1 (by omega)).1.2.2.1
    omega
  have mm : (B 0 (k + 1) - B 0 k) * (B 1 (k + 1) - B 1 k) ≤ 40 * 40 := Nat.mul_le_mul m0 m1
  have hEE : ∀ B' : Nat → Nat → Nat, pq_E B' k → (∀ j, j ≠ k → pq_E B j → pq_E B' j) → ∀ j, j < 16 → pq_sh a6 j → pq_E B' j := by
    intro B' q1 q2 j hj hz
    by_cases c : j = k
    · rw [c]
      exact q1
    · exact q2 j c (hE j hj c hz)
  have F : wX_finish_105 post (nI k) (nI n) f1 f2 a1 a2 a3 a4 a5 a6 a7 a8 a9 a10 a11 := pq_fin105 hk hA (fun B' KK' b1 b2 b3 b4 b5 q1 q2 q3 => H _ _ _ _ _ _ _ _ _ _ _ _ _ ⟨B', KK', n, o, rfl, q1, hEE B' q2 q3, hO⟩)
  unfold wpX_finish
  dsimp only
  refine pq_pairsOf hk hA ?_
  refine pk_le ((B 0 (k + 1) - B 0 k) * (B 1 (k + 1) - B 1 k)) 0 (fun _ => F) (fun hz => ?_) (pk_mul _ _) rfl (by omega)
  have c0 : B 0 k < B 0 (k + 1) := by
    have := Nat.pos_of_mul_pos_right hz
    omega
  have c1 : B 1 k < B 1 (k + 1) := by
    have := Nat.pos_of_mul_pos_left hz
    omega
  have hn16 := hO.1
  refine pk_le 16 n (fun _ => F) (fun hn => ?_)
  refine pq_extremes hk hA c0 c1 (fun l h => ?_)
  refine ⟨pk_in n 16 hn, nm_r (e' := upd a7 n (nI k)) (by rw [nI_clamp (by omega)]) ⟨pk_in n 16 hn, nm_e ⟨pk_in k 32 (by omega), pk_in (16 + k) 32 (by omega) (nI_add 16 k), pk_in n 16 hn, nm_e ⟨pk_in n 16 hn, nm_e ⟨pk_in n 16 hn, nm_e (nm_r (nI_1 n) ?_)⟩⟩⟩⟩⟩
  exact pq_fin105 hk hA (fun B' KK' b1 b2 b3 b4 b5 q1 q2 q3 => H _ _ _ _ _ _ _ _ _ _ _ _ _ ⟨B', KK', n + 1, _, rfl, q1, hEE B' q2 q3, pq_O_add hO hn hk hsh hx⟩)
end
end
section
/-! the three calls that the law makes -/
section
variable {f0 f1 f2 : Int32} {a1 a2 a3 a4 a5 a6 a7 a8 a9 a10 a11 : Nat → Int32}
theorem pq_close33 {post : Int32 → St1 → Prop} {s l : Nat} (hs : s < 2) (hl : l < 16)
    (H : ∀ (r f0 f1 f2 : Int32) (a1 a2 a3 a4 a5 a6 a7 a8 a9 a10 a11 : Nat → Int32), pq_V f0 a1 a3 a4 a6 a7 → post r (f0, f1, f2, a1, a2, a3, a4, a5, a6, a7, a8, a9, a10, a11)) :
    ∀ (c i : Nat) (r f0 f1 f2 : Int32) (a1 a2 a3 a4 a5 a6 a7 a8 a9 a10 a11 : Nat → Int32), l + 1 - i < c → i ≤ 16 → pq_V f0 a1 a3 a4 a6 a7 → wX_close_33 post (nI s) (nI l) c r (nI i) f0 f1 f2 a1 a2 a3 a4 a5 a6 a7 a8 a9 a10 a11 := by
  intro c
  induction c with
  | zero => intro i r f0 f1 f2 a1 a2 a3 a4 a5 a6 a7 a8 a9 a10 a11 hc; exact absurd hc (by omega)
  | succ c ih =>
    intro i r f0 f1 f2 a1 a2 a3 a4 a5 a6 a7 a8 a9 a10 a11 hc hi hV
    have e0 : (16 : Int32) * nI s + nI i = nI (16 * s + i) := pq_ix 16 s i
    have e1 : (16 : Int32) * (1 - nI s) + nI i = nI (16 * (1 - s) + i) := by
      rw [show (1 : Int32) - nI s = nI (1 - s) from pk_sub (a := 1) (by omega)]
      exact pq_ix 16 (1 - s) i
    refine pk_lt l i (fun _ => H r f0 f1 f2 a1 a2 a3 a4 a5 a6 a7 a8 a9 a10 a11 hV) (fun hil => ⟨pk_in (16 * s + i) 32 (by omega) e0, ?_⟩)
    rw [pk_cl (16 * s + i) e0, pk_cl (16 * (1 - s) + i) e1]
    refine br_c (fun hz => ⟨pk_in (16 * s + i) 32 (by omega) e0, nm_e ⟨pk_in (16 * (1 - s) + i) 32 (by omega) e1, ?_⟩⟩) (fun _ => nm_r (nI_1 i) (ih (i + 1) r f0 f1 f2 a1 a2 a3 a4 a5 a6 a7 a8 a9 a10 a11 (by omega) (by omega) hV))
    obtain ⟨B, KK, n, o, ef, hA, hC, hO⟩ := hV
    subst ef
    have hox : ∀ j, j < n → o j ≠ i := fun j hj e => by
      have t := (hO.2.1 j hj).2.2
      rw [e] at t
      exact pq_sh_get hs t hz
    have hO' : pq_O n o (upd a6 (16 * s + i) 1) a7 := ⟨hO.1, fun j hj => ⟨(hO.2.1 j hj).1, (hO.2.1 j hj).2.1, (pq_sh_up hs (hO.2.1 j hj).2.1 (by omega) (hox j hj)).mpr (hO.2.1 j hj).2.2⟩, hO.2.2⟩
    have hC' : ∀ j, j < 16 → j ≠ i → pq_sh (upd a6 (16 * s + i) 1) j → pq_E B j := fun j hj hji hz => hC j hj ((pq_sh_up hs hj (by omega) hji).mp hz)
    refine br_c (fun h0 => nm_r (nI_1 i) (ih (i + 1) r _ f1 f2 a1 a2 a3 a4 a5 _ a7 a8 a9 a10 a11 (by omega) (by omega) ⟨B, KK, n, o, rfl, hA, fun j hj hz => ?_, hO'⟩)) (fun h1 => ?_)
    · by_cases e : j = i
      · rw [e] at hz
        exact absurd h0 (pq_sh_get (s := 1 - s) (by omega) hz)
      · exact hC' j hj e hz
    · refine pq_finish (by omega) hA hO' hox (pq_sh_of hs (by rw [pk_us]; decide) h1) hC' (fun g0 g1 g2 b1 b2 b3 b4 b5 b7 b8 b9 b10 b11 hV' => ?_)
      exact nm_e (nm_r (nI_1 i) (ih (i + 1) _ g0 g1 g2 b1 b2 b3 b4 b5 _ b7 b8 b9 b10 b11 (by omega) (by omega) hV'))
theorem pq_close {post : Int32 → St1 → Prop} {s k l : Nat} (hs : s < 2) (hk : k < 16) (hl : l < 100) (hV : pq_V f0 a1 a3 a4 a6 a7)
    (H : ∀ (r f0 f1 f2 : Int32) (a1 a2 a3 a4 a5 a6 a7 a8 a9 a10 a11 : Nat → Int32), pq_V f0 a1 a3 a4 a6 a7 → post r (f0, f1, f2, a1, a2, a3, a4, a5, a6, a7, a8, a9, a10, a11)) :
    wpX_close post (f0, f1, f2, a1, a2, a3, a4, a5, a6, a7, a8, a9, a10, a11) (nI s) (nI k) (nI l) := by
  unfold wpX_close
  dsimp only
  refine pq_isS hs ?_
  refine br_f (by decide) (br_f (nI_pos (by omega)) (pk_lt l k (fun _ => H _ _ _ _ _ _ _ _ _ _ _ _ _ _ _ hV) (fun _ => pk_lt l 16 (fun hl => ?_) (fun _ => H _ _ _ _ _ _ _ _ _ _ _ _ _ _ _ hV))))
  exact ⟨l + 2, pq_close33 hs hl H (l + 2) k _ _ _ _ _ _ _ _ _ _ _ _ _ _ _ (by omega) (by omega) hV⟩
theorem pq_feed {post : Int32 → St1 → Prop} {s k : Nat} {v : Int32} (hs : s < 2) (hk : k < 16) (hV : pq_V f0 a1 a3 a4 a6 a7)
    (H : ∀ (r f0 f1 f2 : Int32) (a1 a2 a3 a4 a5 a6 a7 a8 a9 a10 a11 : Nat → Int32), pq_V f0 a1 a3 a4 a6 a7 → post r (f0, f1, f2, a1, a2, a3, a4, a5, a6, a7, a8, a9, a10, a11)) :
    wpX_feed post (f0, f1, f2, a1, a2, a3, a4, a5, a6, a7, a8, a9, a10, a11) (nI s) (nI k) v := by
  have H0 : ∀ r, post r (f0, f1, f2, a1, a2, a3, a4, a5, a6, a7, a8, a9, a10, a11) := fun r => H r _ _ _ _ _ _ _ _ _ _ _ _ _ _ hV
  have e0 : (16 : Int32) * nI s + nI k = nI (16 * s + k) := pq_ix 16 s k
  have ec : (nI s).toNatClampNeg = s := nI_clamp (by omega)
  obtain ⟨B, KK, n, o, ef, hA, hC, hO⟩ := hV
  obtain ⟨r1, r2, r3, r4⟩ := hA s hs
  have hb := r1.2.1 k hk
  have hc := r1.2.2.1
  have hm : B s (k + 1) ≤ B s 16 := pq_mono r1 (by omega) (by omega)
  unfold wpX_feed
  dsimp only
  refine pq_isS hs ?_
  refine br_f (by decide) ?_
  refine pq_isK hk ?_
  refine br_f (by decide) (br_c (fun _ => H0 _) (fun _ => br_c (fun _ => ⟨pk_in (16 * s + k) 32 (by omega) e0, ?_⟩) (fun _ => H0 _)))
  rw [pk_cl (16 * s + k) e0]
  refine br_c (fun hz => ⟨pk_in s 2 hs, br_c (fun _ => H0 _) (fun hr => nm_e ?_)⟩) (fun _ => H0 _)
  have hr' : B s 16 < 40 := by
    rcases Nat.lt_or_ge (B s 16) 40 with z | z
    · exact z
    · refine absurd ?_ hr
      rw [ec, r3, show B s 16 = 40 by omega]
      rfl
  refine pq_place hs hk r2 hb (by omega) (fun p q1 q2 => ?_)
  refine ⟨pk_in s 2 hs, nm_r (e' := nI (40 * s + B s 16)) (by rw [ec, r3]; exact pq_ix 40 s _) ?_⟩
  refine pq_feed91 hs hk hr' (by omega) (fun r b1 b2 b4 b5 h1 h4 => ?_)
  refine H _ _ _ _ _ _ _ _ _ _ _ _ _ _ _ ⟨_, _, n, o, ef, pq_A_ins hA hs hk q1 q2 hr' h1 (pq_upd_if (f := fun x => x + 1)) h4, fun j hj hz' => ?_, hO⟩
  refine pq_E_bi (fun e => ?_) (hC j hj hz')
  rw [e] at hz'
  exact pq_sh_get hs hz' hz
theorem pq_retract {post : Int32 → St1 → Prop} {s k : Nat} {v : Int32} (hs : s < 2) (hk : k < 16) (hV : pq_V f0 a1 a3 a4 a6 a7)
    (H : ∀ (r f0 f1 f2 : Int32) (a1 a2 a3 a4 a5 a6 a7 a8 a9 a10 a11 : Nat → Int32), pq_V f0 a1 a3 a4 a6 a7 → post r (f0, f1, f2, a1, a2, a3, a4, a5, a6, a7, a8, a9, a10, a11)) :
    wpX_retract post (f0, f1, f2, a1, a2, a3, a4, a5, a6, a7, a8, a9, a10, a11) (nI s) (nI k) v := by
  have H0 : ∀ r, post r (f0, f1, f2, a1, a2, a3, a4, a5, a6, a7, a8, a9, a10, a11) := fun r => H r _ _ _ _ _ _ _ _ _ _ _ _ _ _ hV
  have ec : (nI s).toNatClampNeg = s := nI_clamp (by omega)
  obtain ⟨B, KK, n, o, ef, hA, hC, hO⟩ := hV
  obtain ⟨r1, r2, r3, r4⟩ := hA s hs
  have hb := r1.2.1 k hk
  have hc := r1.2.2.1
  have hm : B s (k + 1) ≤ B s 16 := pq_mono r1 (by omega) (by omega)
  unfold wpX_retract
  dsimp only
  refine pq_isS hs ?_
  refine br_f (by decide) ?_
  refine pq_isK hk ?_
  refine br_f (by decide) ?_
  refine pq_place hs hk r2 hb (by omega) (fun p q1 q2 => ?_)
  refine ⟨pk_in s 2 hs, nm_r (e' := nI (40 * s + B s 16)) (by rw [ec, r3]; exact pq_ix 40 s _) (pk_le (40 * s + B s 16) (40 * s + p) (fun _ => H0 _) (fun hlt => ⟨pk_in (40 * s + p) 80 (by omega), br_c (fun hkey => ⟨pk_in (40 * s + p) 80 (by omega), br_c (fun _ => nm_r (nI_1 _) ?_) (fun _ => H0 _)⟩) (fun _ => H0 _)⟩))⟩
  have hkp : KK s p = k := by
    rw [nI_clamp (by omega), r4 p (by omega)] at hkey
    have := (r1.2.2.2 p (by omega)).1
    exact (nI_eq (by omega) (by omega)).mp hkey
  have hown := pq_own r1 (show p < B s 16 by omega) hkp
  refine pq_retr79 hs hk hc (by omega) (fun r b1 b2 b4 b5 h1 h4 => ?_)
  refine H _ _ _ _ _ _ _ _ _ _ _ _ _ _ _ ⟨_, _, n, o, ef, pq_A_del hA hs hk q1 (by omega) h1 (pq_upd_if (f := fun x => x - nI 1)) h4, fun j hj hz => ?_, hO⟩
  refine pq_E_bd (fun e => ?_) (hC j hj hz)
  have t := hC j hj hz s hs
  rw [e] at t
  omega
end
end
section
/-! holds, and the law -/
section
variable {f0 f1 f2 : Int32} {a1 a2 a3 a4 a5 a6 a7 a8 a9 a10 a11 : Nat → Int32}
theorem pq_resultKey {post : Int32 → Prop} {n i : Nat} (hn : n ≤ 16) (hi : i < n) (H : post (a7 i)) : wpX_resultKey post (nI n, f1, f2, a1, a2, a3, a4, a5, a6, a7, a8, a9, a10, a11) (nI i) := by
  unfold wpX_resultKey
  dsimp only
  refine br_f (nI_pos (by omega)) (pk_le n i (fun z => absurd z (by omega)) (fun _ => br_f (by decide) ⟨pk_in i 16 (by omega), ?_⟩))
  rw [nI_clamp (by omega)]
  exact H
theorem pq_holds98 {post : Int32 → Prop} {n : Nat} {o : Nat → Nat} (hO : pq_O n o a6 a7) (H : post 1) : ∃ m, wL_holds_98 post (nI n) (nI n) f1 f2 a1 a2 a3 a4 a5 a6 a7 a8 a9 a10 a11 m 0 0 := by
  obtain ⟨hn, h2, h3⟩ := hO
  refine pk_loop (σ := Int32) (fun m i x => wL_holds_98 post (nI n) (nI n) f1 f2 a1 a2 a3 a4 a5 a6 a7 a8 a9 a10 a11 m x (nI i)) (fun i x => ∀ t, t < 16 → pq_bt x t = true → ∃ j, j < i ∧ o j = t) n 0 0 (by omega) ?_ ?_ ?_
  · intro t _ ht
    rw [pq_b_0] at ht
    exact absurd ht (by decide)
  · intro m x _
    exact pk_le n n (fun _ => H) (fun z => absurd z (by omega))
  · intro m i x hi h hw
    obtain ⟨g1, g2, g3⟩ := h2 i hi
    have hno : ¬ pq_bt x (o i) = true := fun z => by
      obtain ⟨j, hj, e⟩ := h (o i) g2 z
      have := h3 j i (by omega) hi e
      omega
    refine pk_le n i (fun z => absurd z (by omega)) (fun _ => ?_)
    refine pq_resultKey hn hi ?_
    rw [g1]
    refine br_f (nI_pos (by omega)) (pk_lt 15 (o i) (fun z => absurd z (by omega)) (fun _ => br_f (pq_seen_no (by omega) hno) (nm_e (nm_r (nI_1 i) (hw _ ?_)))))
    intro t ht hb
    rcases pq_seen_or (show o i < 32 by omega) (by omega) hb with z | z
    · obtain ⟨j, hj, e⟩ := h t ht z
      exact ⟨j, by omega, e⟩
    · exact ⟨i, by omega, z.symm⟩
theorem pq_holds {post : Int32 → Prop} (hV : pq_V f0 a1 a3 a4 a6 a7) (H : post 1) : wpL_holds post (f0, f1, f2, a1, a2, a3, a4, a5, a6, a7, a8, a9, a10, a11) := by
  obtain ⟨B, KK, n, o, ef, hA, hC, hO⟩ := hV
  subst ef
  have hn := hO.1
  have m0 : ∀ s, s < 2 → ∀ k, k < 16 → B s (k + 1) ≤ 40 := fun s hs k hk => by
    have t := pq_mono (hA s hs).1 (show k + 1 ≤ 16 by omega) (by omega)
    have := (hA s hs).1.2.2.1
    omega
  refine pk_loop (σ := Unit) (fun m i _ => wL_holds_2 post (nI n) f1 f2 a1 a2 a3 a4 a5 a6 a7 a8 a9 a10 a11 m (nI i)) (fun _ _ => True) 16 0 () (by omega) trivial ?_ ?_
  · intro m _ _
    refine pk_le 16 16 (fun _ => ?_) (fun z => absurd z (by omega))
    exact br_f (nI_pos (n := n) (by omega)) (pk_le n 16 (fun _ => pq_holds98 hO H) (fun z => absurd z (by omega)))
  · intro m i _ hi _ hw
    have t0 := m0 0 (by omega) i hi
    have t1 := m0 1 (by omega) i hi
    refine pk_le 16 i (fun z => absurd z (by omega)) (fun _ => ?_)
    refine pq_heldWith (s := 0) (by omega) hi hA ?_
    refine pq_heldWith (s := 1) (by omega) hi hA ?_
    refine br_f (nI_pos (by omega)) (br_f (nI_pos (by omega)) ?_)
    refine pq_pairs hi hA ?_
    refine br_t rfl ?_
    refine pq_closed (s := 0) (by omega) hi (fun _ => br_f (by decide) (nm_r (nI_1 i) (hw () trivial))) (fun h0 => br_t rfl ?_)
    refine pq_closed (s := 1) (by omega) hi (fun _ => br_f (by decide) (nm_r (nI_1 i) (hw () trivial))) (fun h1 => br_t rfl ?_)
    rw [show 16 * 0 + i = i by omega] at h0
    have hE := hC i hi ⟨h0, h1⟩
    have x0 := hE 0 (by omega)
    have x1 := hE 1 (by omega)
    refine br_t ?_ (nm_r (nI_1 i) (hw () trivial))
    rw [nI_add, show B 0 (i + 1) - B 0 i + (B 1 (i + 1) - B 1 i) = 0 by omega]
    rfl
theorem pq_cell {post : Int32 → Prop} {L j : Nat} {xs : Nat → Int32} {u : St2} {x : Int32} (hL : L ≤ 260) (hj : j ≤ 300) (hx : x = nI j) (H : ∀ r, post r) : wpL_cell post L xs u x :=
  pk_le L j (fun _ => H _) (fun z => ⟨pk_in j L z hx, H _⟩) rfl hx
theorem pq_179 {post : Int32 → Prop} {L kc ks : Nat} {xs : Nat → Int32} {J : Int32 → Int32 → Int32 → Int32 → (Nat → Int32) → (Nat → Int32) → (Nat → Int32) → (Nat → Int32) → (Nat → Int32) → (Nat → Int32) → (Nat → Int32) → (Nat → Int32) → (Nat → Int32) → (Nat → Int32) → (Nat → Int32) → Prop} {x2 : Int32} (hV : pq_V f0 a1 a3 a4 a6 a7) (HJ : J (x2 + 2) f0 f1 f2 a1 a2 a3 a4 a5 a6 a7 a8 a9 a10 a11) : wL_law_179 post L xs J x2 kc ks f0 f1 f2 a1 a2 a3 a4 a5 a6 a7 a8 a9 a10 a11 := by
  unfold wL_law_179
  refine pq_holds hV ?_
  exact br_f (by decide) (nm_e HJ)
theorem pq_81 {post : Int32 → Prop} {L kc ks s k : Nat} {xs : Nat → Int32} {J : Int32 → Int32 → Int32 → Int32 → (Nat → Int32) → (Nat → Int32) → (Nat → Int32) → (Nat → Int32) → (Nat → Int32) → (Nat → Int32) → (Nat → Int32) → (Nat → Int32) → (Nat → Int32) → (Nat → Int32) → (Nat → Int32) → Prop} {x2 x4 x5 x8 : Int32} (hs : s < 2) (hk : k < 16) (hV : pq_V f0 a1 a3 a4 a6 a7)
    (HJ : ∀ (f0 f1 f2 : Int32) (a1 a2 a3 a4 a5 a6 a7 a8 a9 a10 a11 : Nat → Int32), pq_V f0 a1 a3 a4 a6 a7 → J (x2 + 2) f0 f1 f2 a1 a2 a3 a4 a5 a6 a7 a8 a9 a10 a11) : wL_law_81 post L xs J x2 x4 x5 (nI s) (nI k) x8 kc ks f0 f1 f2 a1 a2 a3 a4 a5 a6 a7 a8 a9 a10 a11 := by
  have G : ∀ (r f0 f1 f2 : Int32) (a1 a2 a3 a4 a5 a6 a7 a8 a9 a10 a11 : Nat → Int32), pq_V f0 a1 a3 a4 a6 a7 → wL_law_179 post L xs J x2 kc ks f0 f1 f2 a1 a2 a3 a4 a5 a6 a7 a8 a9 a10 a11 := fun r f0 f1 f2 a1 a2 a3 a4 a5 a6 a7 a8 a9 a10 a11 h => pq_179 h (HJ f0 f1 f2 a1 a2 a3 a4 a5 a6 a7 a8 a9 a10 a11 h)
  obtain ⟨d, hd, ed⟩ := pk_andE x4 (m := 3) 2 (by decide)
  obtain ⟨q, hq, eq⟩ := pk_andE (nI k) (m := 3) 2 (by decide)
  obtain ⟨w, hw, ew⟩ := pk_andE (nI k) (m := 15) 4 (by decide)
  have hd4 : d < 4 := hd
  have hq4 : q < 4 := hq
  have hw16 : w < 16 := hw
  unfold wL_law_81
  refine br_c (fun _ => br_c (fun _ => br_c (fun _ => ?_) (fun _ => ?_)) (fun _ => ?_)) (fun _ => br_c (fun _ => ?_) (fun _ => ?_))
  · rw [ed, nI_add]
    exact pq_close hs hk (by omega) hV G
  · exact pq_close hs hk (by omega) hV G
  · rw [eq]
    exact pq_retract hs (by omega) hV G
  · unfold wL_law_109
    rw [ew]
    exact pq_feed hs (by omega) hV G
  · unfold wL_law_109
    rw [eq]
    exact pq_feed hs (by omega) hV G
theorem pq_law10 {L kc ks : Nat} {xs : Nat → Int32} (hL : L ≤ 260) : ∀ (n j : Nat) (f0 f1 f2 : Int32) (a1 a2 a3 a4 a5 a6 a7 a8 a9 a10 a11 : Nat → Int32), L - j < n → j ≤ 262 → pq_V f0 a1 a3 a4 a6 a7 → wL_law_10 (fun r => r = 1) L xs kc ks n (nI j) f0 f1 f2 a1 a2 a3 a4 a5 a6 a7 a8 a9 a10 a11 := by
  intro n
  induction n with
  | zero => intro j f0 f1 f2 a1 a2 a3 a4 a5 a6 a7 a8 a9 a10 a11 h; exact absurd h (by omega)
  | succ n ih =>
    intro j f0 f1 f2 a1 a2 a3 a4 a5 a6 a7 a8 a9 a10 a11 hn hj hV
    refine pk_le L j (fun _ => rfl) (fun hlt => ?_)
    refine pq_cell hL (by omega) rfl (fun c => ?_)
    refine pq_cell hL (by omega) (nI_1 j) (fun d => ?_)
    obtain ⟨s, hs, es⟩ := pk_andE (c >>> ((4 : Int32) &&& 31)) (m := 1) 1 (by decide)
    obtain ⟨k, hk, ek⟩ := pk_andE (c >>> ((5 : Int32) &&& 31)) (m := 15) 4 (by decide)
    have G : ∀ (f0 f1 f2 : Int32) (a1 a2 a3 a4 a5 a6 a7 a8 a9 a10 a11 : Nat → Int32), pq_V f0 a1 a3 a4 a6 a7 → wL_law_10 (fun r => r = 1) L xs kc ks n (nI j + 2) f0 f1 f2 a1 a2 a3 a4 a5 a6 a7 a8 a9 a10 a11 := by
      intro f0 f1 f2 a1 a2 a3 a4 a5 a6 a7 a8 a9 a10 a11 h
      rw [show nI j + 2 = nI (j + 2) from nI_add j 2]
      exact ih (j + 2) f0 f1 f2 a1 a2 a3 a4 a5 a6 a7 a8 a9 a10 a11 (by omega) (by omega) h
    refine nm_e (nm_r es (nm_r ek ⟨by decide, nm_e (br_c (fun _ => ⟨by decide, nm_e ?_⟩) (fun _ => ?_))⟩))
    · exact pq_81 hs hk hV G
    · exact pq_81 hs hk hV G
end
theorem pq_V0 : pq_V 0 (fun _ => 0) (fun _ => 0) (fun _ => 0) (fun _ => 0) (fun _ => 0) := by
  refine ⟨fun _ _ => 0, fun _ _ => 0, 0, fun _ => 0, rfl, ?_, ?_, ?_⟩
  · intro s _
    exact ⟨⟨rfl, fun _ _ => Nat.le_refl _, by show (0 : Nat) ≤ 40; omega, fun i hi => absurd hi (Nat.not_lt_zero i)⟩, fun _ _ => rfl, rfl, fun i hi => absurd hi (Nat.not_lt_zero i)⟩
  · intro k _ hz
    exact absurd rfl hz.1
  · exact ⟨by omega, fun i hi => absurd hi (Nat.not_lt_zero i), fun i j hi => absurd hi (Nat.not_lt_zero i)⟩
theorem i_vc (xs : Nat → Int32) (L : Nat) (hL : L ≤ 260) : wpL_law (fun r => r = 1) L xs := by
  refine ⟨11, 340, by omega, by omega, ?_⟩
  refine ⟨by omega, by omega, by omega, by omega, by omega, by omega, by omega, by omega, by omega, by omega, by omega, by omega, by omega, by omega, by omega, by omega, by omega, by omega, by omega, by omega, by omega, by omega, ?_⟩
  exact ⟨L + 1, pq_law10 hL (L + 1) 0 _ _ _ _ _ _ _ _ _ _ _ _ _ _ (by omega) (by omega) pq_V0⟩
end
