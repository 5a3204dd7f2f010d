section
/-! the Hungarian method, with no program in sight -/
def hu_u (f : Nat → Nat) (k x : Nat) : Nat → Nat := fun j => if j = k then x else f j
theorem hu_us {f : Nat → Nat} {k x : Nat} : hu_u f k x k = x := by
  unfold hu_u
  rw [if_pos rfl]
theorem hu_un {f : Nat → Nat} {k x j : Nat} (h : j ≠ k) : hu_u f k x j = f j := by
  unfold hu_u
  rw [if_neg h]
/-- k workers hold tasks among 1..5 -/
def hu_M (k : Nat) (h : Nat → Nat) : Prop :=
  (∀ t, 1 ≤ t → t ≤ 5 → h t ≤ k) ∧
  (∀ s t, 1 ≤ s → s ≤ 5 → 1 ≤ t → t ≤ 5 → h s = h t → h s ≠ 0 → s = t) ∧
  (∀ w, 1 ≤ w → w ≤ k → ∃ t, 1 ≤ t ∧ t ≤ 5 ∧ h t = w)
/-- prices: never more than the pair's value, just that for a held task -/
def hu_D (C : Nat → Nat → Int) (h : Nat → Nat) (u v : Nat → Int) : Prop :=
  (∀ w t, 1 ≤ w → w ≤ 5 → 1 ≤ t → t ≤ 5 → u w + v t ≤ C w t) ∧
  (∀ t, 1 ≤ t → t ≤ 5 → h t ≠ 0 → u (h t) + v t = C (h t) t) ∧
  (∀ w, 1 ≤ w → w ≤ 5 → 0 ≤ u w) ∧ (∀ t, 1 ≤ t → t ≤ 5 → v t ≤ 0) ∧
  (∀ t, 1 ≤ t → t ≤ 5 → h t = 0 → v t = 0)
/-- the tree of settled tasks -/
def hu_T (C : Nat → Nat → Int) (h bf z rk : Nat → Nat) (u v : Nat → Int) (i : Nat) : Prop :=
  (∀ t, t ≤ 5 → z t ≤ 1) ∧ z 0 + z 1 + z 2 + z 3 + z 4 + z 5 = i ∧
  (∀ t, t ≤ 5 → z t = 1 → h t ≠ 0 ∧ rk t < i) ∧
  (∀ t, 1 ≤ t → t ≤ 5 → z t = 1 → bf t ≤ 5 ∧ z (bf t) = 1 ∧ rk (bf t) < rk t ∧ u (h (bf t)) + v t = C (h (bf t)) t)
/-- the slack of the tasks that aren't settled -/
def hu_L (C : Nat → Nat → Int) (h bf z : Nat → Nat) (u v sl : Nat → Int) : Prop :=
  ∀ t, 1 ≤ t → t ≤ 5 → z t = 0 → bf t ≤ 5 ∧ z (bf t) = 1 ∧ sl t = C (h (bf t)) t - u (h (bf t)) - v t ∧
    ∀ s, s ≤ 5 → z s = 1 → sl t ≤ C (h s) t - u (h s) - v t
def hu_H (C : Nat → Nat → Int) (k : Nat) (h bf z rk : Nat → Nat) (u v sl : Nat → Int) (i x : Nat) : Prop :=
  k ≤ 4 ∧ h 0 = k + 1 ∧ hu_M k h ∧ hu_D C h u v ∧ hu_T C h bf z rk u v i ∧ x ≤ 5 ∧ z x = 0 ∧
  ((i = 0 ∧ x = 0 ∧ (∀ t, 1 ≤ t → t ≤ 5 → sl t = 100000000000)) ∨ (1 ≤ i ∧ 1 ≤ x ∧ z 0 = 1 ∧ sl x = 0 ∧ hu_L C h bf z u v sl))
def hu_R (C : Nat → Nat → Int) (k : Nat) (h bf z rk : Nat → Nat) (u v sl : Nat → Int) (i : Nat) : Prop :=
  k ≤ 4 ∧ h 0 = k + 1 ∧ hu_M k h ∧ hu_D C h u v ∧ hu_T C h bf z rk u v i ∧ z 0 = 1 ∧ 1 ≤ i ∧ hu_L C h bf z u v sl
def hu_C (C : Nat → Nat → Int) : Prop := ∀ w t, 1 ≤ w → w ≤ 5 → 1 ≤ t → t ≤ 5 → 0 ≤ C w t ∧ C w t ≤ 1000000000
def hu_nd (a b c d e : Nat) : Bool := a != b && (a != c && (a != d && (a != e && (b != c && (b != d && (b != e && (c != d && (c != e && d != e))))))))
theorem hu_phB : ∀ a, a < 4 → ∀ b, b < 4 → ∀ c, c < 4 → ∀ d, d < 4 → ∀ e, e < 4 → hu_nd a b c d e = false := by decide +kernel
theorem hu_pmB : ∀ a, a < 5 → ∀ b, b < 5 → ∀ c, c < 5 → ∀ d, d < 5 → ∀ e, e < 5 → (hu_nd a b c d e && !([a + 1, b + 1, c + 1, d + 1, e + 1].isPerm [1, 2, 3, 4, 5])) = false := by decide +kernel
theorem hu_ph (a : Nat) (a5 : a < 5) (a0 : a ≠ 0) (b : Nat) (b5 : b < 5) (b0 : b ≠ 0) (ab : a ≠ b) (c : Nat) (c5 : c < 5) (c0 : c ≠ 0) (ac : a ≠ c) (bc : b ≠ c) (d : Nat) (d5 : d < 5) (d0 : d ≠ 0) (ad : a ≠ d) (bd : b ≠ d) (cd : c ≠ d) (e : Nat) (e5 : e < 5) (e0 : e ≠ 0) (ae : a ≠ e) (be : b ≠ e) (ce : c ≠ e) : d = e := by
  apply Classical.byContradiction
  intro de
  have q := hu_phB (a - 1) (by omega) (b - 1) (by omega) (c - 1) (by omega) (d - 1) (by omega) (e - 1) (by omega)
  have n : hu_nd (a - 1) (b - 1) (c - 1) (d - 1) (e - 1) = true := by
    unfold hu_nd
    simp only [Bool.and_eq_true, bne_iff_ne]
    exact ⟨by omega, by omega, by omega, by omega, by omega, by omega, by omega, by omega, by omega, by omega⟩
  rw [n] at q
  exact absurd q (by decide)
theorem hu_pm (a : Nat) (a5 : a < 6) (a0 : a ≠ 0) (b : Nat) (b5 : b < 6) (b0 : b ≠ 0) (ab : a ≠ b) (c : Nat) (c5 : c < 6) (c0 : c ≠ 0) (ac : a ≠ c) (bc : b ≠ c) (d : Nat) (d5 : d < 6) (d0 : d ≠ 0) (ad : a ≠ d) (bd : b ≠ d) (cd : c ≠ d) (e : Nat) (e5 : e < 6) (e0 : e ≠ 0) (ae : a ≠ e) (be : b ≠ e) (ce : c ≠ e) (de : d ≠ e) : List.Perm [a, b, c, d, e] [1, 2, 3, 4, 5] := by
  have q := hu_pmB (a - 1) (by omega) (b - 1) (by omega) (c - 1) (by omega) (d - 1) (by omega) (e - 1) (by omega)
  have n : hu_nd (a - 1) (b - 1) (c - 1) (d - 1) (e - 1) = true := by
    unfold hu_nd
    simp only [Bool.and_eq_true, bne_iff_ne]
    exact ⟨by omega, by omega, by omega, by omega, by omega, by omega, by omega, by omega, by omega, by omega⟩
  rw [n, Bool.true_and, Bool.not_eq_false', show a - 1 + 1 = a by omega, show b - 1 + 1 = b by omega, show c - 1 + 1 = c by omega, show d - 1 + 1 = d by omega, show e - 1 + 1 = e by omega] at q
  exact List.isPerm_iff.mp q
theorem hu_psum {l l' : List Nat} (p : List.Perm l l') (f : Nat → Int) : (l.map f).sum = (l'.map f).sum := by
  induction p with
  | nil => rfl
  | cons x _ ih => simp only [List.map_cons, List.sum_cons]; omega
  | swap x y l => simp only [List.map_cons, List.sum_cons]; omega
  | trans _ _ ih1 ih2 => exact ih1.trans ih2
theorem hu_free {k : Nat} {h : Nat → Nat} (hk : k ≤ 4) (hM : hu_M k h) : ∃ t, 1 ≤ t ∧ t ≤ 5 ∧ h t = 0 := by
  obtain ⟨m1, m2, m3⟩ := hM
  apply Classical.byContradiction
  intro hn
  have e : ∀ t, 1 ≤ t → t ≤ 5 → h t ≠ 0 := fun t a b c => hn ⟨t, a, b, c⟩
  have d : ∀ s t, 1 ≤ s → s ≤ 5 → 1 ≤ t → t ≤ 5 → s ≠ t → h s ≠ h t := fun s t a b c d' n q => n (m2 s t a b c d' q (e s a b))
  have r : ∀ t, 1 ≤ t → t ≤ 5 → h t < 5 := fun t a b => by
    have := m1 t a b
    omega
  exact d 4 5 (by omega) (by omega) (by omega) (by omega) (by omega) (hu_ph (h 1) (r 1 (by omega) (by omega)) (e 1 (by omega) (by omega)) (h 2) (r 2 (by omega) (by omega)) (e 2 (by omega) (by omega)) (d 1 2 (by omega) (by omega) (by omega) (by omega) (by omega))
    (h 3) (r 3 (by omega) (by omega)) (e 3 (by omega) (by omega)) (d 1 3 (by omega) (by omega) (by omega) (by omega) (by omega)) (d 2 3 (by omega) (by omega) (by omega) (by omega) (by omega))
    (h 4) (r 4 (by omega) (by omega)) (e 4 (by omega) (by omega)) (d 1 4 (by omega) (by omega) (by omega) (by omega) (by omega)) (d 2 4 (by omega) (by omega) (by omega) (by omega) (by omega)) (d 3 4 (by omega) (by omega) (by omega) (by omega) (by omega))
    (h 5) (r 5 (by omega) (by omega)) (e 5 (by omega) (by omega)) (d 1 5 (by omega) (by omega) (by omega) (by omega) (by omega)) (d 2 5 (by omega) (by omega) (by omega) (by omega) (by omega)) (d 3 5 (by omega) (by omega) (by omega) (by omega) (by omega)))
theorem hu_bd {C : Nat → Nat → Int} {k : Nat} {h : Nat → Nat} {u v : Nat → Int} (hk : k ≤ 4) (hM : hu_M k h) (hD : hu_D C h u v) (hC : hu_C C) :
    (∀ w, 1 ≤ w → w ≤ 5 → 0 ≤ u w ∧ u w ≤ 1000000000) ∧ (∀ t, 1 ≤ t → t ≤ 5 → -1000000000 ≤ v t ∧ v t ≤ 0) := by
  obtain ⟨f, f1, f5, f0⟩ := hu_free hk hM
  obtain ⟨d1, d2, d3, d4, d5⟩ := hD
  have hu : ∀ w, 1 ≤ w → w ≤ 5 → 0 ≤ u w ∧ u w ≤ 1000000000 := by
    intro w w1 w5
    have a := d1 w f w1 w5 f1 f5
    have b := d5 f f1 f5 f0
    have c := hC w f w1 w5 f1 f5
    have d := d3 w w1 w5
    omega
  refine ⟨hu, ?_⟩
  intro t t1 t5
  have a := d4 t t1 t5
  by_cases e : h t = 0
  · have b := d5 t t1 t5 e
    omega
  · have b := d2 t t1 t5 e
    have m := hM.1 t t1 t5
    have c := hC (h t) t (by omega) (by omega) t1 t5
    have d := hu (h t) (by omega) (by omega)
    omega
theorem hu_rg {k : Nat} {h : Nat → Nat} (hk : k ≤ 4) (h0 : h 0 = k + 1) (hM : hu_M k h) {x : Nat} (hx : x ≤ 5) : h x ≤ 5 := by
  by_cases e : x = 0
  · rw [e, h0]
    omega
  · have := hM.1 x (by omega) hx
    omega
theorem hu_six {x : Nat} (h : x ≤ 5) : x = 0 ∨ x = 1 ∨ x = 2 ∨ x = 3 ∨ x = 4 ∨ x = 5 := by omega
theorem hu_cnt {z : Nat → Nat} {x i : Nat} (x5 : x ≤ 5) (zx : z x = 0) (h : z 0 + z 1 + z 2 + z 3 + z 4 + z 5 = i) :
    hu_u z x 1 0 + hu_u z x 1 1 + hu_u z x 1 2 + hu_u z x 1 3 + hu_u z x 1 4 + hu_u z x 1 5 = i + 1 := by
  rcases hu_six x5 with e | e | e | e | e | e <;> subst e <;> simp [hu_u] <;> omega
theorem hu_i5 {C : Nat → Nat → Int} {k : Nat} {h bf z rk : Nat → Nat} {u v : Nat → Int} {i : Nat} (hk : k ≤ 4) (hM : hu_M k h) (hT : hu_T C h bf z rk u v i) : i ≤ 5 := by
  obtain ⟨f, f1, f5, f0⟩ := hu_free hk hM
  obtain ⟨t1, t2, t3, t4⟩ := hT
  have zf : z f = 0 := by
    have a := t1 f f5
    by_cases e : z f = 1
    · exact absurd f0 (t3 f f5 e).1
    · omega
  have a0 := t1 0 (by omega)
  have a1 := t1 1 (by omega)
  have a2 := t1 2 (by omega)
  have a3 := t1 3 (by omega)
  have a4 := t1 4 (by omega)
  have a5 := t1 5 (by omega)
  rcases hu_six f5 with e | e | e | e | e | e <;> subst e <;> omega
theorem hu_ex {C : Nat → Nat → Int} {k : Nat} {h bf z rk : Nat → Nat} {u v : Nat → Int} {i : Nat} (hk : k ≤ 4) (hM : hu_M k h) (hT : hu_T C h bf z rk u v i) : ∃ t, 1 ≤ t ∧ t ≤ 5 ∧ z t = 0 := by
  obtain ⟨f, f1, f5, f0⟩ := hu_free hk hM
  obtain ⟨t1, t2, t3, t4⟩ := hT
  refine ⟨f, f1, f5, ?_⟩
  have a := t1 f f5
  by_cases e : z f = 1
  · exact absurd f0 (t3 f f5 e).1
  · omega
theorem hu_relax {C : Nat → Nat → Int} {k : Nat} {h bf bf' z rk : Nat → Nat} {u v sl sl' : Nat → Int} {i x : Nat} (H : hu_H C k h bf z rk u v sl i x) (hC : hu_C C) (hx : h x ≠ 0)
    (R : ∀ t, 1 ≤ t → t ≤ 5 → hu_u z x 1 t = 0 → (C (h x) t - u (h x) - v t < sl t ∧ sl' t = C (h x) t - u (h x) - v t ∧ bf' t = x) ∨ (sl t ≤ C (h x) t - u (h x) - v t ∧ sl' t = sl t ∧ bf' t = bf t))
    (K : ∀ t, 1 ≤ t → t ≤ 5 → hu_u z x 1 t = 1 → bf' t = bf t) :
    ∃ rk', hu_R C k h bf' (hu_u z x 1) rk' u v sl' (i + 1) := by
  obtain ⟨hk, h0, hM, hD, hT, x5, zx, hc⟩ := H
  obtain ⟨t1, t2, t3, t4⟩ := hT
  refine ⟨hu_u rk x i, hk, h0, hM, hD, ⟨?_, hu_cnt x5 zx t2, ?_, ?_⟩, ?_, by omega, ?_⟩
  · intro t ht
    by_cases e : t = x
    · rw [e, hu_us]
      exact Nat.le_refl 1
    · rw [hu_un e]
      exact t1 t ht
  · intro t ht hz
    by_cases e : t = x
    · rw [e, hu_us]
      exact ⟨hx, by omega⟩
    · rw [hu_un e] at hz
      rw [hu_un e]
      obtain ⟨a, b⟩ := t3 t ht hz
      exact ⟨a, by omega⟩
  · intro t ht1 ht hz
    rw [K t ht1 ht hz]
    by_cases e : t = x
    · rw [← e] at zx hc
      rcases hc with ⟨_, hx0, _⟩ | ⟨_, _, _, sx, hL⟩
      · omega
      · obtain ⟨b5, bz, bs, _⟩ := hL t ht1 ht zx
        have ne : bf t ≠ x := fun q => by
          rw [q, ← e] at bz
          omega
        refine ⟨b5, by rw [hu_un ne]; exact bz, ?_, by omega⟩
        rw [hu_un ne, e, hu_us, ← e]
        exact (t3 _ b5 bz).2
    · rw [hu_un e] at hz
      obtain ⟨b5, bz, br, be⟩ := t4 t ht1 ht hz
      have ne : bf t ≠ x := fun q => by
        rw [q] at bz
        omega
      exact ⟨b5, by rw [hu_un ne]; exact bz, by rw [hu_un ne, hu_un e]; exact br, be⟩
  · rcases hc with ⟨_, hx0, _⟩ | ⟨_, x1, z0, _⟩
    · rw [hx0, hu_us]
    · rw [hu_un (by omega)]
      exact z0
  · intro t ht1 ht hz
    have e : t ≠ x := fun q => by
      rw [q, hu_us] at hz
      omega
    have hr := hu_rg hk h0 hM x5
    have hR := R t ht1 ht hz
    rw [hu_un e] at hz
    rcases hc with ⟨i0, hx0, hs⟩ | ⟨_, x1, z0, sx, hL⟩
    · have hS := hs t ht1 ht
      obtain ⟨bu, bv⟩ := hu_bd hk hM hD hC
      have bu' := bu (h x) (by omega) hr
      have bv' := bv t ht1 ht
      have bc := hC (h x) t (by omega) hr ht1 ht
      rcases hR with ⟨r1, r2, r3⟩ | ⟨r1, r2, r3⟩
      · refine ⟨by omega, by rw [r3, hu_us], by rw [r3]; exact r2, ?_⟩
        intro s s5 sz
        by_cases es : s = x
        · rw [es]
          omega
        · rw [hu_un es] at sz
          have := (t3 s s5 sz).2
          omega
      · omega
    · obtain ⟨b5, bz, bs, bm⟩ := hL t ht1 ht hz
      rcases hR with ⟨r1, r2, r3⟩ | ⟨r1, r2, r3⟩
      · refine ⟨by omega, by rw [r3, hu_us], by rw [r3]; exact r2, ?_⟩
        intro s s5 sz
        by_cases es : s = x
        · rw [es]
          omega
        · rw [hu_un es] at sz
          have := bm s s5 sz
          omega
      · have ne : bf t ≠ x := fun q => by
          rw [q] at bz
          omega
        refine ⟨by omega, by rw [r3, hu_un ne]; exact bz, by rw [r3, r2]; exact bs, ?_⟩
        intro s s5 sz
        by_cases es : s = x
        · rw [es]
          omega
        · rw [hu_un es] at sz
          have := bm s s5 sz
          omega
theorem hu_move {C : Nat → Nat → Int} {k : Nat} {h bf z rk : Nat → Nat} {u v sl u' v' sl' : Nat → Int} {i b : Nat} (H : hu_R C k h bf z rk u v sl i) (b1 : 1 ≤ b) (b5 : b ≤ 5) (bz : z b = 0)
    (bm : ∀ t, 1 ≤ t → t ≤ 5 → z t = 0 → sl b ≤ sl t)
    (U1 : ∀ s, s ≤ 5 → z s = 1 → u' (h s) = u (h s) + sl b)
    (U0 : ∀ w, 1 ≤ w → w ≤ 5 → (∀ s, s ≤ 5 → z s = 1 → h s ≠ w) → u' w = u w)
    (V1 : ∀ t, 1 ≤ t → t ≤ 5 → z t = 1 → v' t = v t - sl b) (V0 : ∀ t, 1 ≤ t → t ≤ 5 → z t = 0 → v' t = v t)
    (S0 : ∀ t, 1 ≤ t → t ≤ 5 → z t = 0 → sl' t = sl t - sl b) :
    hu_H C k h bf z rk u' v' sl' i b := by
  obtain ⟨hk, h0, hM, hD, hT, z0, i1, hL⟩ := H
  obtain ⟨t1, t2, t3, t4⟩ := hT
  obtain ⟨d1, d2, d3, d4, d5⟩ := hD
  have rg : ∀ s, s ≤ 5 → z s = 1 → 1 ≤ h s ∧ h s ≤ 5 := fun s s5 sz => by
    have a := (t3 s s5 sz).1
    have b := hu_rg hk h0 hM s5
    omega
  have nn : 0 ≤ sl b := by
    obtain ⟨c5, cz, cs, _⟩ := hL b b1 b5 bz
    have a := rg (bf b) c5 cz
    have d := d1 (h (bf b)) b a.1 a.2 b1 b5
    omega
  have zc : ∀ t, t ≤ 5 → z t = 0 ∨ z t = 1 := fun t ht => by
    have := t1 t ht
    omega
  have wc : ∀ w, (∃ s, s ≤ 5 ∧ z s = 1 ∧ h s = w) ∨ (∀ s, s ≤ 5 → z s = 1 → h s ≠ w) := fun w => by
    by_cases e : ∃ s, s ≤ 5 ∧ z s = 1 ∧ h s = w
    · exact Or.inl e
    · exact Or.inr (fun s s5 sz q => e ⟨s, s5, sz, q⟩)
  refine ⟨hk, h0, hM, ⟨?_, ?_, ?_, ?_, ?_⟩, ⟨t1, t2, t3, ?_⟩, b5, bz, Or.inr ⟨i1, b1, z0, ?_, ?_⟩⟩
  · intro w t w1 w5 ta tb
    have d := d1 w t w1 w5 ta tb
    rcases wc w with ⟨s, s5, sz, e⟩ | hn
    · have q := U1 s s5 sz
      rw [e] at q
      rcases zc t tb with f | f
      · have a := (hL t ta tb f).2.2.2 s s5 sz
        rw [e] at a
        have c := bm t ta tb f
        have g := V0 t ta tb f
        omega
      · have g := V1 t ta tb f
        omega
    · have q := U0 w w1 w5 hn
      rcases zc t tb with f | f
      · have g := V0 t ta tb f
        omega
      · have g := V1 t ta tb f
        omega
  · intro t ta tb hn
    have d := d2 t ta tb hn
    have m := hM.1 t ta tb
    rcases zc t tb with f | f
    · have g := V0 t ta tb f
      have q := U0 (h t) (by omega) (by omega) (fun s s5 sz e => by
        by_cases es : s = 0
        · rw [es, h0] at e
          omega
        · have a := hM.2.1 s t (by omega) s5 ta tb e (t3 s s5 sz).1
          rw [a] at sz
          omega)
      omega
    · have g := V1 t ta tb f
      have q := U1 t tb f
      omega
  · intro w w1 w5
    have d := d3 w w1 w5
    rcases wc w with ⟨s, s5, sz, e⟩ | hn
    · have q := U1 s s5 sz
      rw [e] at q
      omega
    · have q := U0 w w1 w5 hn
      omega
  · intro t ta tb
    have d := d4 t ta tb
    rcases zc t tb with f | f
    · have g := V0 t ta tb f
      omega
    · have g := V1 t ta tb f
      omega
  · intro t ta tb hn
    have d := d5 t ta tb hn
    rcases zc t tb with f | f
    · have g := V0 t ta tb f
      omega
    · exact absurd hn (t3 t tb f).1
  · intro t ta tb f
    obtain ⟨c5, cz, cr, ce⟩ := t4 t ta tb f
    have g := V1 t ta tb f
    have q := U1 (bf t) c5 cz
    exact ⟨c5, cz, cr, by omega⟩
  · have g := S0 b b1 b5 bz
    omega
  · intro t ta tb f
    obtain ⟨c5, cz, cs, cm⟩ := hL t ta tb f
    have g := V0 t ta tb f
    have q := U1 (bf t) c5 cz
    have r := S0 t ta tb f
    refine ⟨c5, cz, by omega, ?_⟩
    intro s s5 sz
    have a := cm s s5 sz
    have q := U1 s s5 sz
    omega
/-- on the way back: x is the task whose holder is to be written, r its rank, g the holders before -/
def hu_A (C : Nat → Nat → Int) (k : Nat) (g h bf z rk : Nat → Nat) (u v : Nat → Int) (x r : Nat) : Prop :=
  x ≤ 5 ∧
  (∀ t, t ≤ 5 → t ≠ x → h t ≤ k + 1) ∧
  (∀ s t, s ≤ 5 → t ≤ 5 → s ≠ x → t ≠ x → h s = h t → h s ≠ 0 → s = t) ∧
  (∀ w, 1 ≤ w → w ≤ k + 1 → ∃ t, t ≤ 5 ∧ t ≠ x ∧ h t = w) ∧
  (∀ t, 1 ≤ t → t ≤ 5 → t ≠ x → h t ≠ 0 → u (h t) + v t = C (h t) t) ∧
  (∀ t, 1 ≤ t → t ≤ 5 → t ≠ x → h t = 0 → v t = 0) ∧
  (x ≠ 0 → bf x ≤ 5 ∧ bf x ≠ x ∧ z (bf x) = 1 ∧ rk (bf x) < r ∧ u (g (bf x)) + v x = C (g (bf x)) x) ∧
  (∀ t, t ≤ 5 → z t = 1 → rk t < r → h t = g t) ∧
  (z x = 1 → r ≤ rk x)
theorem hu_A0 {C : Nat → Nat → Int} {k : Nat} {h bf z rk : Nat → Nat} {u v sl : Nat → Int} {i x : Nat} (H : hu_H C k h bf z rk u v sl i x) (hx : h x = 0) : hu_A C k h h bf z rk u v x i := by
  obtain ⟨hk, h0, hM, hD, hT, x5, zx, hc⟩ := H
  obtain ⟨t1, t2, t3, t4⟩ := hT
  obtain ⟨d1, d2, d3, d4, d5⟩ := hD
  obtain ⟨m1, m2, m3⟩ := hM
  have x0 : x ≠ 0 := fun e => by
    rw [e, h0] at hx
    omega
  rcases hc with ⟨_, hx0, _⟩ | ⟨_, x1, z0, sx, hL⟩
  · exact absurd hx0 x0
  · refine ⟨x5, ?_, ?_, ?_, fun t a b _ => d2 t a b, fun t a b _ => d5 t a b, fun _ => ?_, fun _ _ _ _ => rfl, fun e => by omega⟩
    · intro t t5 _
      by_cases e : t = 0
      · rw [e, h0]
        omega
      · have := m1 t (by omega) t5
        omega
    · intro s t s5 t5 _ _ e n
      by_cases es : s = 0
      · by_cases et : t = 0
        · omega
        · have := m1 t (by omega) t5
          rw [es, h0] at e
          omega
      · by_cases et : t = 0
        · have := m1 s (by omega) s5
          rw [et, h0] at e
          omega
        · exact m2 s t (by omega) s5 (by omega) t5 e n
    · intro w w1 wk
      by_cases e : w = k + 1
      · exact ⟨0, by omega, fun q => x0 q.symm, by rw [h0, e]⟩
      · obtain ⟨t, ta, tb, te⟩ := m3 w w1 (by omega)
        exact ⟨t, tb, fun q => by rw [q, hx] at te; omega, te⟩
    · obtain ⟨b5, bz, bs, _⟩ := hL x x1 x5 zx
      exact ⟨b5, fun q => by rw [q] at bz; omega, bz, (t3 _ b5 bz).2, by omega⟩
theorem hu_A1 {C : Nat → Nat → Int} {k : Nat} {g h bf z rk : Nat → Nat} {u v : Nat → Int} {i x r : Nat} (hT : hu_T C g bf z rk u v i) (H : hu_A C k g h bf z rk u v x r) (hx : x ≠ 0) :
    bf x ≤ 5 ∧ rk (bf x) < r ∧ hu_A C k g (hu_u h x (h (bf x))) bf z rk u v (bf x) (rk (bf x)) := by
  obtain ⟨x5, a1, a2, a3, a4, a5, a6, a7, a8⟩ := H
  obtain ⟨t1, t2, t3, t4⟩ := hT
  obtain ⟨y5, yx, yz, yr, ye⟩ := a6 hx
  have hy := a7 (bf x) y5 yz yr
  refine ⟨y5, yr, y5, ?_, ?_, ?_, ?_, ?_, ?_, ?_, fun _ => Nat.le_refl _⟩
  · intro t t5 ty
    by_cases e : t = x
    · rw [e, hu_us]
      exact a1 _ y5 yx
    · rw [hu_un e]
      exact a1 t t5 e
  · intro s t s5 t5 sy ty e n
    by_cases es : s = x
    · by_cases et : t = x
      · omega
      · rw [es, hu_us] at n
        rw [es, hu_us, hu_un et] at e
        exact absurd (a2 (bf x) t y5 t5 yx et e n).symm ty
    · by_cases et : t = x
      · rw [hu_un es] at n
        rw [et, hu_us, hu_un es] at e
        exact absurd (a2 s (bf x) s5 y5 es yx e n) sy
      · rw [hu_un es] at n
        rw [hu_un es, hu_un et] at e
        exact a2 s t s5 t5 es et e n
  · intro w w1 wk
    obtain ⟨t, t5, tx, te⟩ := a3 w w1 wk
    by_cases e : t = bf x
    · exact ⟨x, x5, fun q => yx q.symm, by rw [hu_us, ← e, te]⟩
    · exact ⟨t, t5, e, by rw [hu_un tx, te]⟩
  · intro t ta tb ty n
    by_cases e : t = x
    · rw [e, hu_us, hy]
      exact ye
    · rw [hu_un e] at n
      rw [hu_un e]
      exact a4 t ta tb e n
  · intro t ta tb ty n
    by_cases e : t = x
    · rw [e, hu_us, hy] at n
      exact absurd n (t3 _ y5 yz).1
    · rw [hu_un e] at n
      exact a5 t ta tb e n
  · intro y0
    obtain ⟨c5, cz, cr, ce⟩ := t4 (bf x) (by omega) y5 yz
    exact ⟨c5, fun q => by rw [q] at cr; omega, cz, cr, ce⟩
  · intro t t5 tz tr
    have e : t ≠ x := fun q => by
      rw [q] at tz tr
      have := a8 tz
      omega
    rw [hu_un e]
    exact a7 t t5 tz (by omega)
theorem hu_A2 {C : Nat → Nat → Int} {k : Nat} {g h bf z rk : Nat → Nat} {u v : Nat → Int} {r : Nat} (hD : hu_D C g u v) (H : hu_A C k g h bf z rk u v 0 r) : hu_M (k + 1) h ∧ hu_D C h u v := by
  obtain ⟨x5, a1, a2, a3, a4, a5, a6, a7, a8⟩ := H
  obtain ⟨d1, d2, d3, d4, d5⟩ := hD
  refine ⟨⟨fun t ta tb => a1 t tb (by omega), fun s t sa sb ta tb => a2 s t sb tb (by omega) (by omega), ?_⟩, d1, fun t ta tb => a4 t ta tb (by omega), d3, d4, fun t ta tb => a5 t ta tb (by omega)⟩
  intro w w1 wk
  obtain ⟨t, t5, t0, te⟩ := a3 w w1 wk
  exact ⟨t, by omega, t5, te⟩
/-- the end: all five hold a task, and the prices come to the total -/
theorem hu_fin {C : Nat → Nat → Int} {h : Nat → Nat} {u v : Nat → Int} (hM : hu_M 5 h) (hD : hu_D C h u v) :
    (∀ t, 1 ≤ t → t ≤ 5 → 1 ≤ h t ∧ h t ≤ 5) ∧ (∀ s t, 1 ≤ s → s ≤ 5 → 1 ≤ t → t ≤ 5 → h s = h t → s = t) ∧
    C (h 1) 1 + C (h 2) 2 + C (h 3) 3 + C (h 4) 4 + C (h 5) 5 = (u 1 + u 2 + u 3 + u 4 + u 5) + (v 1 + v 2 + v 3 + v 4 + v 5) := by
  obtain ⟨m1, m2, m3⟩ := hM
  obtain ⟨d1, d2, d3, d4, d5⟩ := hD
  have nz : ∀ t, 1 ≤ t → t ≤ 5 → h t ≠ 0 := by
    obtain ⟨p1, p1a, p1b, p1e⟩ := m3 1 (by omega) (by omega)
    obtain ⟨p2, p2a, p2b, p2e⟩ := m3 2 (by omega) (by omega)
    obtain ⟨p3, p3a, p3b, p3e⟩ := m3 3 (by omega) (by omega)
    obtain ⟨p4, p4a, p4b, p4e⟩ := m3 4 (by omega) (by omega)
    obtain ⟨p5, p5a, p5b, p5e⟩ := m3 5 (by omega) (by omega)
    have ne : ∀ a b : Nat, h a ≠ h b → a ≠ b := fun a b n e => n (by rw [e])
    have P := hu_pm p1 (by omega) (by omega) p2 (by omega) (by omega) (ne _ _ (by omega)) p3 (by omega) (by omega) (ne _ _ (by omega)) (ne _ _ (by omega)) p4 (by omega) (by omega) (ne _ _ (by omega)) (ne _ _ (by omega)) (ne _ _ (by omega)) p5 (by omega) (by omega) (ne _ _ (by omega)) (ne _ _ (by omega)) (ne _ _ (by omega)) (ne _ _ (by omega))
    intro t ta tb
    have mem : t ∈ [p1, p2, p3, p4, p5] := (P.mem_iff).mpr (by
      have : t = 1 ∨ t = 2 ∨ t = 3 ∨ t = 4 ∨ t = 5 := by omega
      rcases this with e | e | e | e | e <;> rw [e] <;> decide)
    simp only [List.mem_cons, List.not_mem_nil, or_false] at mem
    rcases mem with e | e | e | e | e <;> rw [e] <;> omega
  have rg : ∀ t, 1 ≤ t → t ≤ 5 → 1 ≤ h t ∧ h t ≤ 5 := fun t ta tb => by
    have a := nz t ta tb
    have b := m1 t ta tb
    omega
  have inj : ∀ s t, 1 ≤ s → s ≤ 5 → 1 ≤ t → t ≤ 5 → h s = h t → s = t := fun s t sa sb ta tb e => m2 s t sa sb ta tb e (nz s sa sb)
  refine ⟨rg, inj, ?_⟩
  have r : ∀ t, 1 ≤ t → t ≤ 5 → h t < 6 := fun t ta tb => by
    have := rg t ta tb
    omega
  have d : ∀ s t, 1 ≤ s → s ≤ 5 → 1 ≤ t → t ≤ 5 → s ≠ t → h s ≠ h t := fun s t a b c d' n q => n (inj s t a b c d' q)
  have P := hu_pm (h 1) (r 1 (by omega) (by omega)) (nz 1 (by omega) (by omega)) (h 2) (r 2 (by omega) (by omega)) (nz 2 (by omega) (by omega)) (d 1 2 (by omega) (by omega) (by omega) (by omega) (by omega))
    (h 3) (r 3 (by omega) (by omega)) (nz 3 (by omega) (by omega)) (d 1 3 (by omega) (by omega) (by omega) (by omega) (by omega)) (d 2 3 (by omega) (by omega) (by omega) (by omega) (by omega))
    (h 4) (r 4 (by omega) (by omega)) (nz 4 (by omega) (by omega)) (d 1 4 (by omega) (by omega) (by omega) (by omega) (by omega)) (d 2 4 (by omega) (by omega) (by omega) (by omega) (by omega)) (d 3 4 (by omega) (by omega) (by omega) (by omega) (by omega))
    (h 5) (r 5 (by omega) (by omega)) (nz 5 (by omega) (by omega)) (d 1 5 (by omega) (by omega) (by omega) (by omega) (by omega)) (d 2 5 (by omega) (by omega) (by omega) (by omega) (by omega)) (d 3 5 (by omega) (by omega) (by omega) (by omega) (by omega)) (d 4 5 (by omega) (by omega) (by omega) (by omega) (by omega))
  have S := hu_psum P u
  simp only [List.map_cons, List.map_nil, List.sum_cons, List.sum_nil] at S
  have e1 := d2 1 (by omega) (by omega) (nz 1 (by omega) (by omega))
  have e2 := d2 2 (by omega) (by omega) (nz 2 (by omega) (by omega))
  have e3 := d2 3 (by omega) (by omega) (nz 3 (by omega) (by omega))
  have e4 := d2 4 (by omega) (by omega) (nz 4 (by omega) (by omega))
  have e5 := d2 5 (by omega) (by omega) (nz 5 (by omega) (by omega))
  omega
end
section
/-! the walk of nextTask: its three loops -/
def hu_i (a : Nat → Int64) : Nat → Int := fun j => (a j).toInt
def hu_c (c : Nat → Nat → Nat) : Nat → Nat → Int := fun w t => (c (w - 1) (t - 1) : Int)
theorem hw_sub {x y : Int64} (h1 : -4000000000000000000 ≤ x.toInt - y.toInt) (h2 : x.toInt - y.toInt ≤ 4000000000000000000) : (x - y).toInt = x.toInt - y.toInt := by
  rw [Int64.toInt_sub]
  exact Int.bmod_eq_of_le (by omega) (by omega)
theorem hw_add {x y : Int64} (h1 : -4000000000000000000 ≤ x.toInt + y.toInt) (h2 : x.toInt + y.toInt ≤ 4000000000000000000) : (x + y).toInt = x.toInt + y.toInt := by
  rw [Int64.toInt_add]
  exact Int.bmod_eq_of_le (by omega) (by omega)
theorem hw_pred {n : Nat} (h : 1 ≤ n) : nI n - 1 = nI (n - 1) := by
  obtain ⟨m, rfl⟩ : ∃ m, n = m + 1 := ⟨n - 1, by omega⟩
  exact nI_pred m
section
variable {st en fo pa fw wo fp pw pt : Int32} {a1 a2 : Nat → Int32} {a3 : Nat → Int64} {a4 a5 a6 : Nat → Int32} {a7 : Nat → Int64}
variable {a8 a9 : Nat → Int64} {a10 a11 : Nat → Int32} {a12 : Nat → Int64} {a13 : Nat → Int32}
theorem hw_150 {post : Int32 → St2 → Prop} {x3 : Int32} {d : Int64} {h z : Nat → Nat}
    (m10 : ∀ t, t ≤ 5 → a10 t = nI (h t)) (m13 : ∀ t, t ≤ 5 → a13 t = nI (z t)) (hz : ∀ t, t ≤ 5 → z t ≤ 1)
    (hh : ∀ t, t ≤ 5 → h t ≤ 5) (hj : ∀ s t, s ≤ 5 → t ≤ 5 → z s = 1 → z t = 1 → h s = h t → s = t)
    (H : ∀ b8 b9 b12 : Nat → Int64, (∀ s, s ≤ 5 → z s = 1 → b8 (h s) = a8 (h s) + d) → (∀ w, (∀ s, s ≤ 5 → z s = 1 → h s ≠ w) → b8 w = a8 w) → (∀ t, t ≤ 5 → z t = 1 → b9 t = a9 t - d) → (∀ t, t ≤ 5 → z t = 0 → b9 t = a9 t) → (∀ t, t ≤ 5 → z t = 0 → b12 t = a12 t - d) → post x3 (st, en, fo, pa, fw, wo, fp, pw, pt, a1, a2, a3, a4, a5, a6, a7, b8, b9, a10, a11, b12, a13)) :
    ∃ n, wX_nextTask_150 post x3 d st en fo pa fw wo fp pw pt n 0 a1 a2 a3 a4 a5 a6 a7 a8 a9 a10 a11 a12 a13 := by
  refine pk_loop (σ := (Nat → Int64) × (Nat → Int64) × (Nat → Int64)) (fun n i s => wX_nextTask_150 post x3 d st en fo pa fw wo fp pw pt n (nI i) a1 a2 a3 a4 a5 a6 a7 s.1 s.2.1 a10 a11 s.2.2 a13)
    (fun i s => (∀ t, t < i → z t = 1 → s.1 (h t) = a8 (h t) + d) ∧ (∀ w, (∀ t, t < i → z t = 1 → h t ≠ w) → s.1 w = a8 w) ∧ (∀ t, t < i → z t = 1 → s.2.1 t = a9 t - d) ∧ (∀ t, (t < i → z t = 0) → s.2.1 t = a9 t) ∧ (∀ t, t < i → z t = 0 → s.2.2 t = a12 t - d) ∧ (∀ t, i ≤ t → s.2.2 t = a12 t))
    6 0 (a8, a9, a12) (by omega) ⟨fun t ht => absurd ht (by omega), fun w _ => rfl, fun t ht => absurd ht (by omega), fun t _ => rfl, fun t ht => absurd ht (by omega), fun t _ => rfl⟩ ?_ ?_
  · intro n s hI
    obtain ⟨i1, i2, i3, i4, i5, i6⟩ := hI
    exact pk_le 6 6 (fun _ => H s.1 s.2.1 s.2.2 (fun t ht => i1 t (by omega)) (fun w hw => i2 w (fun t ht => hw t (by omega))) (fun t ht => i3 t (by omega)) (fun t ht hz => i4 t (fun _ => hz)) (fun t ht => i5 t (by omega))) (fun q => absurd q (by omega))
  · intro n i s hi hI hw
    obtain ⟨b8, b9, b12⟩ := s
    obtain ⟨i1, i2, i3, i4, i5, i6⟩ := hI
    dsimp only at i1 i2 i3 i4 i5 i6
    have hzi := hz i (by omega)
    have hhi := hh i (by omega)
    refine pk_le 6 i (fun q => absurd q (by omega)) (fun _ => ⟨pk_in i 6 hi, ?_⟩)
    rw [nI_clamp (show i < 2 ^ 31 by omega), m13 i (by omega), m10 i (by omega), nI_clamp (show h i < 2 ^ 31 by omega)]
    refine pk_eq (z i) 0 (fun q => ⟨pk_in i 6 hi, pk_in i 6 hi, nm_e (nm_r (nI_1 i) (hw (b8, b9, vp_updL b12 i (b12 i - d)) ⟨?_, ?_, ?_, ?_, ?_, ?_⟩))⟩) (fun q => ⟨pk_in i 6 hi, pk_in (h i) 6 (by omega), pk_in (h i) 6 (by omega), nm_e ⟨pk_in i 6 hi, pk_in i 6 hi, nm_e (nm_r (nI_1 i) (hw (vp_updL b8 (h i) (b8 (h i) + d), vp_updL b9 i (b9 i - d), b12) ⟨?_, ?_, ?_, ?_, ?_, ?_⟩))⟩⟩)
    · intro t ht tz
      exact i1 t (by
        by_cases e : t = i
        · rw [e] at tz
          omega
        · omega) tz
    · intro w hq
      exact i2 w (fun t ht => hq t (by omega))
    · intro t ht tz
      exact i3 t (by
        by_cases e : t = i
        · rw [e] at tz
          omega
        · omega) tz
    · intro t ht
      exact i4 t (fun g => ht (by omega))
    · intro t ht tz
      dsimp only
      by_cases e : t = i
      · rw [e, pk_uLs, i6 i (by omega)]
      · rw [pk_uLn e]
        exact i5 t (by omega) tz
    · intro t ht
      dsimp only
      rw [pk_uLn (by omega)]
      exact i6 t (by omega)
    · intro t ht tz
      dsimp only
      by_cases e : t = i
      · rw [e, pk_uLs, i2 (h i) (fun s hs sz g => absurd (hj s i (by omega) (by omega) sz (by omega) g) (by omega))]
      · rw [pk_uLn (fun g => e (hj t i (by omega) (by omega) tz (by omega) g))]
        exact i1 t (by omega) tz
    · intro w hq
      dsimp only
      rw [pk_uLn (fun g => hq i (by omega) (by omega) g.symm)]
      exact i2 w (fun t ht => hq t (by omega))
    · intro t ht tz
      dsimp only
      by_cases e : t = i
      · rw [e, pk_uLs, i4 i (fun g => absurd g (by omega))]
      · rw [pk_uLn e]
        exact i3 t (by omega) tz
    · intro t ht
      dsimp only
      by_cases e : t = i
      · rw [e] at ht
        have := ht (by omega)
        omega
      · rw [pk_uLn e]
        exact i4 t (fun g => ht (by omega))
    · intro t ht tz
      exact i5 t (by
        by_cases e : t = i
        · rw [e] at tz
          omega
        · omega) tz
    · intro t ht
      exact i6 t (by omega)
theorem hw_88 {post : Int32 → St2 → Prop} {z : Nat → Nat}
    (m13 : ∀ t, t ≤ 5 → a13 t = nI (z t)) (hz : ∀ t, t ≤ 5 → z t ≤ 1) (hex : ∃ t, 1 ≤ t ∧ t ≤ 5 ∧ z t = 0)
    (H : ∀ b, 1 ≤ b → b ≤ 5 → z b = 0 → (∀ t, 1 ≤ t → t ≤ 5 → z t = 0 → (a12 b).toInt ≤ (a12 t).toInt) → ∃ n, wX_nextTask_150 post (nI b) (a12 b) st en fo pa fw wo fp pw pt n 0 a1 a2 a3 a4 a5 a6 a7 a8 a9 a10 a11 a12 a13) :
    ∃ n, wX_nextTask_88 post st en fo pa fw wo fp pw pt a1 a2 a3 a4 a5 a6 a7 a8 a9 a10 a11 a12 a13 n 0 1 := by
  refine pk_loop (σ := Nat) (fun n i b => wX_nextTask_88 post st en fo pa fw wo fp pw pt a1 a2 a3 a4 a5 a6 a7 a8 a9 a10 a11 a12 a13 n (nI b) (nI i))
    (fun i b => 1 ≤ i ∧ ((b = 0 ∧ ∀ t, 1 ≤ t → t < i → z t ≠ 0) ∨ (1 ≤ b ∧ b < i ∧ z b = 0 ∧ ∀ t, 1 ≤ t → t < i → z t = 0 → (a12 b).toInt ≤ (a12 t).toInt)))
    6 1 0 (by omega) ⟨by omega, Or.inl ⟨rfl, fun t a b => absurd b (by omega)⟩⟩ ?_ ?_
  · intro n b hI
    obtain ⟨_, ⟨b0, hn⟩ | ⟨b1, b6, bz, bm⟩⟩ := hI
    · obtain ⟨t, ta, tb, tz⟩ := hex
      exact absurd tz (hn t ta (by omega))
    · refine pk_le 6 6 (fun _ => ⟨pk_in b 6 b6, nm_e ?_⟩) (fun q => absurd q (by omega))
      rw [nI_clamp (show b < 2 ^ 31 by omega)]
      exact H b b1 (by omega) bz (fun t ta tb => bm t ta (by omega))
  · intro n i b hi hI hw
    obtain ⟨i1, hI⟩ := hI
    have hzi := hz i (by omega)
    have b6 : b ≤ 5 := by
      rcases hI with ⟨b0, _⟩ | ⟨_, b6, _⟩ <;> omega
    refine pk_le 6 i (fun q => absurd q (by omega)) (fun _ => ⟨pk_in i 6 hi, ?_⟩)
    rw [nI_clamp (show i < 2 ^ 31 by omega), nI_clamp (show b < 2 ^ 31 by omega), m13 i (by omega)]
    refine pk_eq (z i) 0 (fun q => pk_eq b 0 (fun b0 => nm_r (nI_1 i) (hw i ⟨by omega, ?_⟩)) (fun b0 => ⟨pk_in i 6 hi, pk_in b 6 (by omega), br_c (fun g => nm_r (nI_1 i) (hw b ⟨by omega, ?_⟩)) (fun g => nm_r (nI_1 i) (hw i ⟨by omega, ?_⟩))⟩)) (fun q => nm_r (nI_1 i) (hw b ⟨by omega, ?_⟩))
    · rcases hI with ⟨_, hn⟩ | ⟨b1, _⟩
      · refine Or.inr ⟨i1, by omega, q, fun t ta tb tz => ?_⟩
        by_cases e : t = i
        · rw [e]
          exact Int.le_refl _
        · exact absurd tz (hn t ta (by omega))
      · omega
    · rcases hI with ⟨e0, _⟩ | ⟨b1, bi, bz, bm⟩
      · omega
      · refine Or.inr ⟨b1, by omega, bz, fun t ta tb tz => ?_⟩
        by_cases e : t = i
        · rw [e]
          exact Int64.le_iff_toInt_le.mp g
        · exact bm t ta (by omega) tz
    · rcases hI with ⟨e0, _⟩ | ⟨b1, bi, bz, bm⟩
      · omega
      · have g' : ¬ (a12 b).toInt ≤ (a12 i).toInt := fun y => g (Int64.le_iff_toInt_le.mpr y)
        refine Or.inr ⟨i1, by omega, q, fun t ta tb tz => ?_⟩
        by_cases e : t = i
        · rw [e]
          exact Int.le_refl _
        · have := bm t ta (by omega) tz
          omega
    · rcases hI with ⟨e0, hn⟩ | ⟨b1, bi, bz, bm⟩
      · refine Or.inl ⟨e0, fun t ta tb => ?_⟩
        by_cases e : t = i
        · rw [e]
          exact q
        · exact hn t ta (by omega)
      · refine Or.inr ⟨b1, by omega, bz, fun t ta tb tz => ?_⟩
        by_cases e : t = i
        · rw [e] at tz
          exact absurd tz q
        · exact bm t ta (by omega) tz
/-- what valueOf answers, whatever the search's arrays hold -/
def hw_V (c : Nat → Nat → Nat) (st en fo pa fw wo fp pw pt : Int32) (a1 a2 : Nat → Int32) (a3 : Nat → Int64) (a4 a5 a6 : Nat → Int32) (a7 : Nat → Int64) : Prop :=
  ∀ (P : Int64 → Prop) (w t : Nat) (b8 b9 : Nat → Int64) (b10 b11 : Nat → Int32) (b12 : Nat → Int64) (b13 : Nat → Int32), w < 5 → t < 5 → P (lN (c w t)) → wpX_valueOf P (st, en, fo, pa, fw, wo, fp, pw, pt, a1, a2, a3, a4, a5, a6, a7, b8, b9, b10, b11, b12, b13) (nI w) (nI t)
theorem hw_9 {post : Int32 → St2 → Prop} {c : Nat → Nat → Nat} {z : Nat → Nat} {x o : Nat} (hV : hw_V c st en fo pa fw wo fp pw pt a1 a2 a3 a4 a5 a6 a7) (hc : ∀ w t, c w t ≤ 1000000000)
    (o1 : 1 ≤ o) (o5 : o ≤ 5)
    (m13 : ∀ t, t ≤ 5 → a13 t = nI (z t)) (hz : ∀ t, t ≤ 5 → z t ≤ 1)
    (bu : -1000000000 ≤ (a8 o).toInt ∧ (a8 o).toInt ≤ 1000000000) (bv : ∀ t, 1 ≤ t → t ≤ 5 → -1000000000 ≤ (a9 t).toInt ∧ (a9 t).toInt ≤ 1000000000)
    (H : ∀ (b11 : Nat → Int32) (b12 : Nat → Int64),
      (∀ t, 1 ≤ t → t ≤ 5 → z t = 0 → (hu_c c o t - (a8 o).toInt - (a9 t).toInt < (a12 t).toInt ∧ (b12 t).toInt = hu_c c o t - (a8 o).toInt - (a9 t).toInt ∧ b11 t = nI x) ∨ ((a12 t).toInt ≤ hu_c c o t - (a8 o).toInt - (a9 t).toInt ∧ (b12 t).toInt = (a12 t).toInt ∧ b11 t = a11 t)) →
      (∀ t, t ≤ 5 → z t = 1 → b11 t = a11 t) → b11 0 = a11 0 → ∃ n, wX_nextTask_88 post st en fo pa fw wo fp pw pt a1 a2 a3 a4 a5 a6 a7 a8 a9 a10 b11 b12 a13 n 0 1) :
    ∃ n, wX_nextTask_9 post (nI x) (nI o) st en fo pa fw wo fp pw pt n 1 a1 a2 a3 a4 a5 a6 a7 a8 a9 a10 a11 a12 a13 := by
  refine pk_loop (σ := (Nat → Int32) × (Nat → Int64)) (fun n i s => wX_nextTask_9 post (nI x) (nI o) st en fo pa fw wo fp pw pt n (nI i) a1 a2 a3 a4 a5 a6 a7 a8 a9 a10 s.1 s.2 a13)
    (fun i s => 1 ≤ i ∧ (∀ t, 1 ≤ t → t < i → z t = 0 → (hu_c c o t - (a8 o).toInt - (a9 t).toInt < (a12 t).toInt ∧ (s.2 t).toInt = hu_c c o t - (a8 o).toInt - (a9 t).toInt ∧ s.1 t = nI x) ∨ ((a12 t).toInt ≤ hu_c c o t - (a8 o).toInt - (a9 t).toInt ∧ (s.2 t).toInt = (a12 t).toInt ∧ s.1 t = a11 t)) ∧
      (∀ t, t < i → z t = 1 → s.1 t = a11 t) ∧ (∀ t, i ≤ t → s.1 t = a11 t ∧ s.2 t = a12 t) ∧ s.1 0 = a11 0)
    6 1 (a11, a12) (by omega) ⟨by omega, fun t a b => absurd b (by omega), fun t a b => rfl, fun t _ => ⟨rfl, rfl⟩, rfl⟩ ?_ ?_
  · intro n s hI
    obtain ⟨_, i1, i2, _, i4⟩ := hI
    exact pk_le 6 6 (fun _ => H s.1 s.2 (fun t ta tb => i1 t ta (by omega)) (fun t tb => i2 t (by omega)) i4) (fun q => absurd q (by omega))
  · intro n i s hi hI hw
    obtain ⟨b11, b12⟩ := s
    obtain ⟨i0, i1, i2, i3, i4⟩ := hI
    dsimp only at i1 i2 i3 i4
    have hzi := hz i (by omega)
    refine pk_le 6 i (fun q => absurd q (by omega)) (fun _ => ⟨pk_in i 6 hi, ?_⟩)
    rw [nI_clamp (show i < 2 ^ 31 by omega), m13 i (by omega), nI_clamp (show o < 2 ^ 31 by omega)]
    refine pk_eq (z i) 0 (fun q => ?_) (fun q => nm_r (nI_1 i) (hw (b11, b12) ⟨by omega, ?_, ?_, ?_, i4⟩))
    · rw [hw_pred o1, hw_pred i0]
      refine hV _ (o - 1) (i - 1) _ _ _ _ _ _ (by omega) (by omega) ⟨pk_in o 6 (by omega), pk_in i 6 hi, nm_e ⟨pk_in i 6 hi, ?_⟩⟩
      have hcc := hc (o - 1) (i - 1)
      have e1 : (lN (c (o - 1) (i - 1))).toInt = (c (o - 1) (i - 1) : Int) := lN_toInt (by omega)
      have bvi := bv i i0 (by omega)
      have e2 : (lN (c (o - 1) (i - 1)) - a8 o).toInt = (c (o - 1) (i - 1) : Int) - (a8 o).toInt := by
        rw [hw_sub (by omega) (by omega), e1]
      have e3 : (lN (c (o - 1) (i - 1)) - a8 o - a9 i).toInt = hu_c c o i - (a8 o).toInt - (a9 i).toInt := by
        rw [hw_sub (by omega) (by omega), e2]
        rfl
      have j := i3 i (by omega)
      refine br_c (fun g => nm_r (nI_1 i) (hw (b11, b12) ⟨by omega, ?_, ?_, ?_, i4⟩)) (fun g => ⟨pk_in i 6 hi, nm_e ⟨pk_in i 6 hi, nm_e (nm_r (nI_1 i) (hw (upd b11 i (nI x), vp_updL b12 i (lN (c (o - 1) (i - 1)) - a8 o - a9 i)) ⟨by omega, ?_, ?_, ?_, ?_⟩))⟩⟩)
      · intro t ta tb tz
        dsimp only
        by_cases e : t = i
        · have g' : (b12 i).toInt ≤ (lN (c (o - 1) (i - 1)) - a8 o - a9 i).toInt := Int64.le_iff_toInt_le.mp g
          rw [e3, j.2] at g'
          rw [e, j.2]
          exact Or.inr ⟨g', rfl, j.1⟩
        · exact i1 t ta (by omega) tz
      · intro t tb tz
        exact i2 t (by
          by_cases e : t = i
          · rw [e] at tz
            omega
          · omega) tz
      · intro t tb
        exact i3 t (by omega)
      · intro t ta tb tz
        dsimp only
        by_cases e : t = i
        · have g' : ¬ (b12 i).toInt ≤ (lN (c (o - 1) (i - 1)) - a8 o - a9 i).toInt := fun y => g (Int64.le_iff_toInt_le.mpr y)
          rw [e3, j.2] at g'
          rw [e, pk_us, pk_uLs, e3]
          exact Or.inl ⟨by omega, rfl, rfl⟩
        · rw [pk_un e, pk_uLn e]
          exact i1 t ta (by omega) tz
      · intro t tb tz
        dsimp only
        have e : t ≠ i := fun e => by
          rw [e] at tz
          omega
        rw [pk_un e]
        exact i2 t (by omega) tz
      · intro t tb
        dsimp only
        rw [pk_un (by omega), pk_uLn (by omega)]
        exact i3 t (by omega)
      · dsimp only
        rw [pk_un (by omega)]
        exact i4
    · intro t ta tb tz
      exact i1 t ta (by
        by_cases e : t = i
        · rw [e] at tz
          omega
        · omega) tz
    · intro t tb tz
      dsimp only
      by_cases e : t = i
      · rw [e]
        exact (i3 i (by omega)).1
      · exact i2 t (by omega) tz
    · intro t tb
      exact i3 t (by omega)
theorem hw_next {post : Int32 → St2 → Prop} {c : Nat → Nat → Nat} {k i x : Nat} {h bf z rk : Nat → Nat} (hV : hw_V c st en fo pa fw wo fp pw pt a1 a2 a3 a4 a5 a6 a7) (hc : ∀ w t, c w t ≤ 1000000000)
    (m10 : ∀ t, t ≤ 5 → a10 t = nI (h t)) (m11 : ∀ t, t ≤ 5 → a11 t = nI (bf t) ∧ bf t ≤ 5) (m13 : ∀ t, t ≤ 5 → a13 t = nI (hu_u z x 1 t))
    (H0 : hu_H (hu_c c) k h bf z rk (hu_i a8) (hu_i a9) (hu_i a12) i x) (hx : h x ≠ 0)
    (H : ∀ (b8 b9 : Nat → Int64) (b11 : Nat → Int32) (b12 : Nat → Int64) (bf' rk' : Nat → Nat) (y : Nat), (∀ t, t ≤ 5 → b11 t = nI (bf' t) ∧ bf' t ≤ 5) →
      hu_H (hu_c c) k h bf' (hu_u z x 1) rk' (hu_i b8) (hu_i b9) (hu_i b12) (i + 1) y → post (nI y) (st, en, fo, pa, fw, wo, fp, pw, pt, a1, a2, a3, a4, a5, a6, a7, b8, b9, a10, b11, b12, a13)) :
    wpX_nextTask post (st, en, fo, pa, fw, wo, fp, pw, pt, a1, a2, a3, a4, a5, a6, a7, a8, a9, a10, a11, a12, a13) (nI x) := by
  have hC : hu_C (hu_c c) := fun w t _ _ _ _ => by
    have := hc (w - 1) (t - 1)
    unfold hu_c
    omega
  have x5 : x ≤ 5 := H0.2.2.2.2.2.1
  have hr := hu_rg H0.1 H0.2.1 H0.2.2.1 x5
  obtain ⟨bu, bv⟩ := hu_bd H0.1 H0.2.2.1 H0.2.2.2.1 hC
  have bux := bu (h x) (by omega) hr
  have hz1 : ∀ t, t ≤ 5 → hu_u z x 1 t ≤ 1 := fun t ht => by
    by_cases e : t = x
    · rw [e, hu_us]
      exact Nat.le_refl 1
    · rw [hu_un e]
      exact H0.2.2.2.2.1.1 t ht
  unfold wpX_nextTask
  dsimp only
  refine ⟨pk_in x 6 (by omega), ?_⟩
  rw [nI_clamp (show x < 2 ^ 31 by omega), m10 x x5]
  refine nm_e (hw_9 (z := hu_u z x 1) hV hc (by omega) hr m13 hz1 ⟨by have := bux.1; unfold hu_i at this; omega, bux.2⟩ (fun t ta tb => ⟨(bv t ta tb).1, by have := (bv t ta tb).2; unfold hu_i at this; omega⟩) ?_)
  intro b11 b12 R K K0
  have rd : ∀ t, t ≤ 5 → b11 t = nI x ∨ b11 t = a11 t := fun t ht => by
    by_cases t0 : t = 0
    · rw [t0]
      exact Or.inr K0
    · have a := hz1 t ht
      by_cases e : hu_u z x 1 t = 0
      · rcases R t (by omega) ht e with ⟨_, _, q⟩ | ⟨_, _, q⟩
        · exact Or.inl q
        · exact Or.inr q
      · exact Or.inr (K t ht (by omega))
  have n11 : ∀ t, t ≤ 5 → b11 t = nI ((b11 t).toNatClampNeg) ∧ (b11 t).toNatClampNeg ≤ 5 := fun t ht => by
    rcases rd t ht with q | q
    · rw [q, nI_clamp (show x < 2 ^ 31 by omega)]
      exact ⟨rfl, x5⟩
    · have m := m11 t ht
      rw [q, m.1, nI_clamp (show bf t < 2 ^ 31 by omega)]
      exact ⟨rfl, m.2⟩
  have cx : ∀ t, b11 t = nI x → (b11 t).toNatClampNeg = x := fun t q => by
    rw [q, nI_clamp (show x < 2 ^ 31 by omega)]
  have cb : ∀ t, t ≤ 5 → b11 t = a11 t → (b11 t).toNatClampNeg = bf t := fun t ht q => by
    have m := m11 t ht
    rw [q, m.1, nI_clamp (show bf t < 2 ^ 31 by omega)]
  obtain ⟨rk', hR⟩ := hu_relax (bf' := fun t => (b11 t).toNatClampNeg) (sl' := hu_i b12) H0 hC hx
    (fun t ta tb tz => by
      rcases R t ta tb tz with ⟨q1, q2, q3⟩ | ⟨q1, q2, q3⟩
      · exact Or.inl ⟨q1, q2, cx t q3⟩
      · exact Or.inr ⟨q1, q2, cb t tb q3⟩)
    (fun t ta tb tz => cb t tb (K t tb tz))
  have hT := hR.2.2.2.2.1
  refine hw_88 m13 hz1 (hu_ex hR.1 hR.2.2.1 hT) ?_
  intro b b1 b5 bz bm
  refine hw_150 m10 m13 hz1 (fun t ht => hu_rg H0.1 H0.2.1 H0.2.2.1 ht) ?_ ?_
  · intro s t s5 t5 sz tz e
    have hM := H0.2.2.1
    have h0 := H0.2.1
    by_cases es : s = 0
    · by_cases et : t = 0
      · omega
      · have := hM.1 t (by omega) t5
        rw [es, h0] at e
        omega
    · by_cases et : t = 0
      · have := hM.1 s (by omega) s5
        rw [et, h0] at e
        omega
      · exact hM.2.1 s t (by omega) s5 (by omega) t5 e (hT.2.2.1 s s5 sz).1
  · intro d8 d9 d12 u1 u0 v1 v0 s0
    have nb : 0 ≤ (b12 b).toInt ∧ (b12 b).toInt ≤ 2000000000 := by
      obtain ⟨c5, cz, cs, _⟩ := hR.2.2.2.2.2.2.2 b b1 b5 bz
      dsimp only at c5 cz cs
      have a := (hT.2.2.1 _ c5 cz).1
      have g := hu_rg H0.1 H0.2.1 H0.2.2.1 c5
      have d := H0.2.2.2.1.1 _ b (show 1 ≤ h ((b11 b).toNatClampNeg) by omega) g b1 b5
      have e := bu _ (show 1 ≤ h ((b11 b).toNatClampNeg) by omega) g
      have f := bv b b1 b5
      have i := hC _ b (show 1 ≤ h ((b11 b).toNatClampNeg) by omega) g b1 b5
      have j : (b12 b).toInt = hu_i b12 b := rfl
      rw [j]
      omega
    refine H d8 d9 b11 d12 _ rk' b n11 (hu_move hR b1 b5 bz bm ?_ ?_ ?_ ?_ ?_)
    · intro s s5 sz
      have a := (hT.2.2.1 s s5 sz).1
      have g := hu_rg H0.1 H0.2.1 H0.2.2.1 s5
      have e := bu (h s) (by omega) g
      unfold hu_i at e ⊢
      rw [u1 s s5 sz, hw_add (by omega) (by omega)]
    · intro w w1 w5 hn
      unfold hu_i
      rw [u0 w hn]
    · intro t ta tb tz
      have e := bv t ta tb
      unfold hu_i at e ⊢
      rw [v1 t tb tz, hw_sub (by omega) (by omega)]
    · intro t ta tb tz
      unfold hu_i
      rw [v0 t tb tz]
    · intro t ta tb tz
      obtain ⟨c5, cz, cs, _⟩ := hR.2.2.2.2.2.2.2 t ta tb tz
      dsimp only at c5 cz cs
      have a := (hT.2.2.1 _ c5 cz).1
      have g := hu_rg H0.1 H0.2.1 H0.2.2.1 c5
      have e := bu _ (show 1 ≤ h ((b11 t).toNatClampNeg) by omega) g
      have f := bv t ta tb
      have i := hC _ t (show 1 ≤ h ((b11 t).toNatClampNeg) by omega) g ta tb
      have m := bm t ta tb tz
      have j : (b12 t).toInt = hu_i b12 t := rfl
      unfold hu_i
      rw [s0 t tb tz, hw_sub (by omega) (by omega)]
end
end
section
/-! the walk of bringIn and solve -/
section
variable {st en fo pa fw wo fp pw pt : Int32} {a1 a2 : Nat → Int32} {a3 : Nat → Int64} {a4 a5 a6 : Nat → Int32} {a7 : Nat → Int64}
variable {a8 a9 : Nat → Int64} {a10 a11 : Nat → Int32} {a12 : Nat → Int64} {a13 : Nat → Int32}
theorem hw_84 {post : St2 → Prop} {C : Nat → Nat → Int} {k i x : Nat} {h bf z rk : Nat → Nat} {u v sl : Nat → Int}
    (m10 : ∀ t, t ≤ 5 → a10 t = nI (h t)) (m11 : ∀ t, t ≤ 5 → a11 t = nI (bf t) ∧ bf t ≤ 5) (hr : ∀ t, t ≤ 5 → h t ≤ 5)
    (H0 : hu_H C k h bf z rk u v sl i x) (hx : h x = 0)
    (H : ∀ (h' : Nat → Nat) (b10 : Nat → Int32), (∀ t, t ≤ 5 → b10 t = nI (h' t)) → hu_M (k + 1) h' → hu_D C h' u v → post (st, en, fo, pa, fw, wo, fp, pw, pt, a1, a2, a3, a4, a5, a6, a7, a8, a9, b10, a11, a12, a13)) :
    ∃ n, wX_bringIn_84 post st en fo pa fw wo fp pw pt n (nI x) 0 a1 a2 a3 a4 a5 a6 a7 a8 a9 a10 a11 a12 a13 := by
  have hT := H0.2.2.2.2.1
  have i5 := hu_i5 H0.1 H0.2.2.1 hT
  refine pk_loop (σ := Nat × (Nat → Int32)) (fun n j s => wX_bringIn_84 post st en fo pa fw wo fp pw pt n (nI s.1) (nI j) a1 a2 a3 a4 a5 a6 a7 a8 a9 s.2 a11 a12 a13)
    (fun j s => ∃ (h' : Nat → Nat) (r : Nat), (∀ t, t ≤ 5 → s.2 t = nI (h' t)) ∧ hu_A C k h h' bf z rk u v s.1 r ∧ j + r ≤ 5)
    6 0 (x, a10) (by omega) ⟨h, i, m10, hu_A0 H0 hx, by omega⟩ ?_ ?_
  · intro n s hI
    obtain ⟨h', r, _, _, hr⟩ := hI
    omega
  · intro n j s hj hI hw
    obtain ⟨y, b10⟩ := s
    obtain ⟨h', r, m, hA, hjr⟩ := hI
    dsimp only at m hA
    have y5 : y ≤ 5 := hA.1
    have my := m11 y y5
    refine pk_le 6 j (fun q => absurd q (by omega)) (fun _ => ?_)
    refine pk_eq y 0 (fun y0 => ?_) (fun y0 => ⟨pk_in y 6 (by omega), ?_⟩)
    · rw [y0] at hA
      obtain ⟨hM, hD⟩ := hu_A2 H0.2.2.2.1 hA
      exact H h' b10 m hM hD
    · obtain ⟨q5, qr, qA⟩ := hu_A1 hT hA y0
      dsimp only
      rw [nI_clamp (show y < 2 ^ 31 by omega)]
      refine nm_r my.1 ⟨pk_in (bf y) 6 (by omega), pk_in y 6 (by omega), ?_⟩
      rw [nI_clamp (show bf y < 2 ^ 31 by omega)]
      refine nm_e (nm_r (nI_1 j) (hw (bf y, upd b10 y (b10 (bf y))) ⟨hu_u h' y (h' (bf y)), rk (bf y), ?_, qA, by omega⟩))
      intro t t5
      dsimp only
      by_cases e : t = y
      · rw [e, pk_us, hu_us]
        exact m _ q5
      · rw [pk_un e, hu_un e]
        exact m t t5
theorem hw_48 {post : St2 → Prop} {c : Nat → Nat → Nat} {k : Nat} {h bf z rk : Nat → Nat} (hV : hw_V c st en fo pa fw wo fp pw pt a1 a2 a3 a4 a5 a6 a7) (hc : ∀ w t, c w t ≤ 1000000000)
    (m10 : ∀ t, t ≤ 5 → a10 t = nI (h t)) (m11 : ∀ t, t ≤ 5 → a11 t = nI (bf t) ∧ bf t ≤ 5) (m13 : ∀ t, t ≤ 5 → a13 t = nI (z t))
    (H0 : hu_H (hu_c c) k h bf z rk (hu_i a8) (hu_i a9) (hu_i a12) 0 0)
    (H : ∀ (h' : Nat → Nat) (b8 b9 : Nat → Int64) (b10 b11 : Nat → Int32) (b12 : Nat → Int64) (b13 : Nat → Int32), (∀ t, t ≤ 5 → b10 t = nI (h' t)) → hu_M (k + 1) h' → hu_D (hu_c c) h' (hu_i b8) (hu_i b9) → post (st, en, fo, pa, fw, wo, fp, pw, pt, a1, a2, a3, a4, a5, a6, a7, b8, b9, b10, b11, b12, b13)) :
    ∃ n, wX_bringIn_48 post n 0 0 st en fo pa fw wo fp pw pt a1 a2 a3 a4 a5 a6 a7 a8 a9 a10 a11 a12 a13 := by
  have hr : ∀ t, t ≤ 5 → h t ≤ 5 := fun t ht => hu_rg H0.1 H0.2.1 H0.2.2.1 ht
  refine pk_loop (σ := Nat × (Nat → Int64) × (Nat → Int64) × (Nat → Int32) × (Nat → Int64) × (Nat → Int32)) (fun n i s => wX_bringIn_48 post n (nI s.1) (nI i) st en fo pa fw wo fp pw pt a1 a2 a3 a4 a5 a6 a7 s.2.1 s.2.2.1 a10 s.2.2.2.1 s.2.2.2.2.1 s.2.2.2.2.2)
    (fun i s => ∃ bf z rk : Nat → Nat, (∀ t, t ≤ 5 → s.2.2.2.1 t = nI (bf t) ∧ bf t ≤ 5) ∧ (∀ t, t ≤ 5 → s.2.2.2.2.2 t = nI (z t)) ∧ hu_H (hu_c c) k h bf z rk (hu_i s.2.1) (hu_i s.2.2.1) (hu_i s.2.2.2.2.1) i s.1)
    6 0 (0, a8, a9, a11, a12, a13) (by omega) ⟨bf, z, rk, m11, m13, H0⟩ ?_ ?_
  · intro n s hI
    obtain ⟨bf, z, rk, _, _, hH⟩ := hI
    have := hu_i5 hH.1 hH.2.2.1 hH.2.2.2.2.1
    omega
  · intro n i s hi hI hw
    obtain ⟨x, b8, b9, b11, b12, b13⟩ := s
    obtain ⟨bf, z, rk, n11, n13, hH⟩ := hI
    dsimp only at n11 n13 hH
    have x5 : x ≤ 5 := hH.2.2.2.2.2.1
    have hx5 := hr x x5
    refine pk_le 6 i (fun q => absurd q (by omega)) (fun _ => ⟨pk_in x 6 (by omega), ?_⟩)
    dsimp only
    rw [nI_clamp (show x < 2 ^ 31 by omega), m10 x x5]
    refine pk_eq (h x) 0 (fun q => hw_84 m10 n11 hr hH q (fun h' b10 m hM hD => H h' b8 b9 b10 b11 b12 b13 m hM hD)) (fun q => ⟨pk_in x 6 (by omega), nm_e ?_⟩)
    refine hw_next hV hc m10 n11 (z := z) (fun t t5 => ?_) hH q (fun d8 d9 d11 d12 bf' rk' y m11' hH' => nm_r (nI_1 i) (hw (y, d8, d9, d11, d12, upd b13 x 1) ⟨bf', hu_u z x 1, rk', m11', ?_, hH'⟩))
    · by_cases e : t = x
      · rw [e, pk_us, hu_us]
        rfl
      · rw [pk_un e, hu_un e]
        exact n13 t t5
    · intro t t5
      dsimp only
      by_cases e : t = x
      · rw [e, pk_us, hu_us]
        rfl
      · rw [pk_un e, hu_un e]
        exact n13 t t5
theorem hw_b9 {post : St2 → Prop}
    (H : ∀ (b11 : Nat → Int32) (b12 : Nat → Int64) (b13 : Nat → Int32), (∀ t, t < 6 → b11 t = 0 ∧ b12 t = 100000000000 ∧ b13 t = 0) → ∃ n, wX_bringIn_48 post n 0 0 st en fo pa fw wo fp pw pt a1 a2 a3 a4 a5 a6 a7 a8 a9 a10 b11 b12 b13) :
    ∃ n, wX_bringIn_9 post st en fo pa fw wo fp pw pt n 0 a1 a2 a3 a4 a5 a6 a7 a8 a9 a10 a11 a12 a13 := by
  refine pk_loop (σ := (Nat → Int32) × (Nat → Int64) × (Nat → Int32)) (fun n i s => wX_bringIn_9 post st en fo pa fw wo fp pw pt n (nI i) a1 a2 a3 a4 a5 a6 a7 a8 a9 a10 s.1 s.2.1 s.2.2)
    (fun i s => ∀ t, t < i → s.1 t = 0 ∧ s.2.1 t = 100000000000 ∧ s.2.2 t = 0) 6 0 (a11, a12, a13) (by omega) (fun t ht => absurd ht (by omega)) ?_ ?_
  · intro n s hI
    exact pk_le 6 6 (fun _ => H s.1 s.2.1 s.2.2 hI) (fun q => absurd q (by omega))
  · intro n i s hi hI hw
    refine pk_le 6 i (fun q => absurd q (by omega)) (fun _ => ⟨pk_in i 6 hi, ?_⟩)
    rw [nI_clamp (show i < 2 ^ 31 by omega)]
    refine nm_e ⟨pk_in i 6 hi, nm_e ⟨pk_in i 6 hi, nm_e (nm_r (nI_1 i) (hw (upd s.1 i 0, vp_updL s.2.1 i 100000000000, upd s.2.2 i 0) ?_))⟩⟩
    intro t ht
    dsimp only
    by_cases e : t = i
    · rw [e, pk_us, pk_uLs, pk_us]
      exact ⟨rfl, rfl, rfl⟩
    · rw [pk_un e, pk_uLn e, pk_un e]
      exact hI t (by omega)
theorem hw_bring {post : St2 → Prop} {c : Nat → Nat → Nat} {k : Nat} {h : Nat → Nat} (hV : hw_V c st en fo pa fw wo fp pw pt a1 a2 a3 a4 a5 a6 a7) (hc : ∀ w t, c w t ≤ 1000000000) (hk : k ≤ 4)
    (m10 : ∀ t, t ≤ 5 → a10 t = nI (h t)) (hM : hu_M k h) (hD : hu_D (hu_c c) h (hu_i a8) (hu_i a9))
    (H : ∀ (h' : Nat → Nat) (b8 b9 : Nat → Int64) (b10 b11 : Nat → Int32) (b12 : Nat → Int64) (b13 : Nat → Int32), (∀ t, t ≤ 5 → b10 t = nI (h' t)) → hu_M (k + 1) h' → hu_D (hu_c c) h' (hu_i b8) (hu_i b9) → post (st, en, fo, pa, fw, wo, fp, pw, pt, a1, a2, a3, a4, a5, a6, a7, b8, b9, b10, b11, b12, b13)) :
    wpX_bringIn post (st, en, fo, pa, fw, wo, fp, pw, pt, a1, a2, a3, a4, a5, a6, a7, a8, a9, a10, a11, a12, a13) (nI (k + 1)) := by
  unfold wpX_bringIn
  dsimp only
  refine nm_e (hw_b9 (fun b11 b12 b13 hb => hw_48 (h := hu_u h 0 (k + 1)) (bf := fun _ => 0) (z := fun _ => 0) (rk := fun _ => 0) hV hc ?_ ?_ ?_ ?_ H))
  · intro t t5
    by_cases e : t = 0
    · rw [e, hu_us]
      exact pk_us
    · rw [hu_un e, ← m10 t t5]
      exact pk_un e
  · intro t t5
    exact ⟨(hb t (by omega)).1, Nat.zero_le _⟩
  · intro t t5
    exact (hb t (by omega)).2.2
  · have eq : ∀ t, 1 ≤ t → hu_u h 0 (k + 1) t = h t := fun t ht => hu_un (by omega)
    obtain ⟨m1, m2, m3⟩ := hM
    obtain ⟨d1, d2, d3, d4, d5⟩ := hD
    refine ⟨hk, hu_us, ⟨?_, ?_, ?_⟩, ⟨d1, ?_, d3, d4, ?_⟩, ⟨fun _ _ => Nat.zero_le _, rfl, fun t _ q => absurd (show (0 : Nat) = 1 from q) (by decide), fun t _ _ q => absurd (show (0 : Nat) = 1 from q) (by decide)⟩, by omega, rfl, Or.inl ⟨rfl, rfl, ?_⟩⟩
    · intro t ta tb
      rw [eq t ta]
      exact m1 t ta tb
    · intro s t sa sb ta tb
      rw [eq t ta, eq s sa]
      exact m2 s t sa sb ta tb
    · intro w w1 wk
      obtain ⟨t, ta, tb, te⟩ := m3 w w1 wk
      exact ⟨t, ta, tb, by rw [eq t ta]; exact te⟩
    · intro t ta tb
      rw [eq t ta]
      exact d2 t ta tb
    · intro t ta tb
      rw [eq t ta]
      exact d5 t ta tb
    · intro t ta tb
      unfold hu_i
      rw [(hb t (by omega)).2.1]
      rfl
/-- the total of the first n tasks -/
def hu_tot (c : Nat → Nat → Nat) (h : Nat → Nat) : Nat → Nat
  | 0 => 0
  | n + 1 => hu_tot c h n + c (h (n + 1) - 1) n
/-- what solve finds: each worker has one task, and no plan is cheaper -/
def hu_O (c : Nat → Nat → Nat) (h : Nat → Nat) : Prop :=
  (∀ t, 1 ≤ t → t ≤ 5 → 1 ≤ h t ∧ h t ≤ 5) ∧ (∀ s t, 1 ≤ s → s ≤ 5 → 1 ≤ t → t ≤ 5 → h s = h t → s = t) ∧
  ∃ u v : Nat → Int, (∀ w t, 1 ≤ w → w ≤ 5 → 1 ≤ t → t ≤ 5 → u w + v t ≤ hu_c c w t) ∧ (hu_tot c h 5 : Int) = (u 1 + u 2 + u 3 + u 4 + u 5) + (v 1 + v 2 + v 3 + v 4 + v 5)
theorem hw_57 {post : Int64 → St2 → Prop} {c : Nat → Nat → Nat} {h : Nat → Nat} (hV : hw_V c st en fo pa fw wo fp pw pt a1 a2 a3 a4 a5 a6 a7)
    (m10 : ∀ t, t ≤ 5 → a10 t = nI (h t)) (hr : ∀ t, 1 ≤ t → t ≤ 5 → 1 ≤ h t ∧ h t ≤ 5)
    (H : post (lN (hu_tot c h 5)) (st, en, fo, pa, fw, wo, fp, pw, pt, a1, a2, a3, a4, a5, a6, a7, a8, a9, a10, a11, a12, a13)) :
    ∃ n, wX_solve_57 post st en fo pa fw wo fp pw pt a1 a2 a3 a4 a5 a6 a7 a8 a9 a10 a11 a12 a13 n 0 1 := by
  refine pk_loop (σ := Nat) (fun n i s => wX_solve_57 post st en fo pa fw wo fp pw pt a1 a2 a3 a4 a5 a6 a7 a8 a9 a10 a11 a12 a13 n (lN s) (nI i))
    (fun i s => 1 ≤ i ∧ s = hu_tot c h (i - 1)) 6 1 0 (by omega) ⟨by omega, rfl⟩ ?_ ?_
  · intro n s hI
    obtain ⟨_, e⟩ := hI
    refine pk_lt 5 6 (fun _ => ?_) (fun q => absurd q (by omega))
    rw [e]
    exact H
  · intro n i s hi hI hw
    obtain ⟨i1, e⟩ := hI
    have hi' := hr i i1 (by omega)
    refine pk_lt 5 i (fun q => absurd q (by omega)) (fun _ => ⟨pk_in i 6 hi, ?_⟩)
    rw [nI_clamp (show i < 2 ^ 31 by omega), m10 i (by omega), hw_pred hi'.1, hw_pred i1]
    refine hV _ (h i - 1) (i - 1) _ _ _ _ _ _ (by omega) (by omega) (nm_r (lN_add _ _) (nm_r (nI_1 i) (hw _ ⟨by omega, ?_⟩)))
    obtain ⟨j, rfl⟩ : ∃ j, i = j + 1 := ⟨i - 1, by omega⟩
    rw [e]
    rfl
theorem hw_solve {post : Int64 → St2 → Prop} {c : Nat → Nat → Nat} (hV : hw_V c st en fo pa fw wo fp pw pt a1 a2 a3 a4 a5 a6 a7) (hc : ∀ w t, c w t ≤ 1000000000)
    (H : ∀ (h : Nat → Nat) (b8 b9 : Nat → Int64) (b10 b11 : Nat → Int32) (b12 : Nat → Int64) (b13 : Nat → Int32), hu_O c h → post (lN (hu_tot c h 5)) (st, en, fo, pa, fw, wo, fp, pw, pt, a1, a2, a3, a4, a5, a6, a7, b8, b9, b10, b11, b12, b13)) :
    wpX_solve post (st, en, fo, pa, fw, wo, fp, pw, pt, a1, a2, a3, a4, a5, a6, a7, a8, a9, a10, a11, a12, a13) := by
  unfold wpX_solve
  dsimp only
  refine pk_loop (σ := (Nat → Int64) × (Nat → Int64) × (Nat → Int32)) (fun n i s => wX_solve_2 post st en fo pa fw wo fp pw pt n (nI i) a1 a2 a3 a4 a5 a6 a7 s.1 s.2.1 s.2.2 a11 a12 a13)
    (fun i s => ∀ t, t < i → s.1 t = 0 ∧ s.2.1 t = 0 ∧ s.2.2 t = 0) 6 0 (a8, a9, a10) (by omega) (fun t ht => absurd ht (by omega)) ?_ ?_
  · intro n s hI
    obtain ⟨b8, b9, b10⟩ := s
    dsimp only at hI
    refine pk_le 6 6 (fun _ => ?_) (fun q => absurd q (by omega))
    refine pk_loop (σ := (Nat → Int64) × (Nat → Int64) × (Nat → Int32) × (Nat → Int32) × (Nat → Int64) × (Nat → Int32)) (fun n i s => wX_solve_37 post n (nI i) st en fo pa fw wo fp pw pt a1 a2 a3 a4 a5 a6 a7 s.1 s.2.1 s.2.2.1 s.2.2.2.1 s.2.2.2.2.1 s.2.2.2.2.2)
      (fun i s => ∃ (k : Nat) (h : Nat → Nat), i = k + 1 ∧ (∀ t, t ≤ 5 → s.2.2.1 t = nI (h t)) ∧ hu_M k h ∧ hu_D (hu_c c) h (hu_i s.1) (hu_i s.2.1)) 6 1 (b8, b9, b10, a11, a12, a13) (by omega) ⟨0, fun _ => 0, rfl, fun t t5 => (hI t (by omega)).2.2, ⟨fun _ _ _ => Nat.le_refl 0, fun _ _ _ _ _ _ _ q => absurd rfl q, fun w a b => absurd b (by omega)⟩, ?_⟩ ?_ ?_
    · have e8 : ∀ t, t ≤ 5 → hu_i b8 t = 0 := fun t t5 => by
        unfold hu_i
        rw [(hI t (by omega)).1]
        rfl
      have e9 : ∀ t, t ≤ 5 → hu_i b9 t = 0 := fun t t5 => by
        unfold hu_i
        rw [(hI t (by omega)).2.1]
        rfl
      refine ⟨fun w t w1 w5 t1 t5 => ?_, fun t _ _ q => absurd rfl q, fun w w1 w5 => ?_, fun t t1 t5 => ?_, fun t t1 t5 _ => ?_⟩
      · dsimp only
        rw [e8 w w5, e9 t t5]
        unfold hu_c
        omega
      · dsimp only
        rw [e8 w w5]
        exact Int.le_refl 0
      · dsimp only
        rw [e9 t t5]
        exact Int.le_refl 0
      · dsimp only
        exact e9 t t5
    · intro n s hI
      obtain ⟨d8, d9, d10, d11, d12, d13⟩ := s
      obtain ⟨k, h, e, m, hM, hD⟩ := hI
      dsimp only at m hD
      have e' : k = 5 := by omega
      rw [e'] at hM
      obtain ⟨f1, f2, f3⟩ := hu_fin hM hD
      refine pk_lt 5 6 (fun _ => ?_) (fun q => absurd q (by omega))
      refine hw_57 hV m f1 (H h d8 d9 d10 d11 d12 d13 ⟨f1, f2, hu_i d8, hu_i d9, hD.1, ?_⟩)
      rw [← f3]
      show ((0 + c (h 1 - 1) 0 + c (h 2 - 1) 1 + c (h 3 - 1) 2 + c (h 4 - 1) 3 + c (h 5 - 1) 4 : Nat) : Int) = (c (h 1 - 1) 0 : Int) + (c (h 2 - 1) 1 : Int) + (c (h 3 - 1) 2 : Int) + (c (h 4 - 1) 3 : Int) + (c (h 5 - 1) 4 : Int)
      omega
    · intro n i s hi hI hw
      obtain ⟨d8, d9, d10, d11, d12, d13⟩ := s
      obtain ⟨k, h, e, m, hM, hD⟩ := hI
      dsimp only at m hD
      refine pk_lt 5 i (fun q => absurd q (by omega)) (fun _ => ?_)
      rw [e]
      refine hw_bring hV hc (by omega) m hM hD (fun h' f8 f9 f10 f11 f12 f13 m' hM' hD' => nm_r (nI_1 (k + 1)) ?_)
      rw [e] at hw
      exact hw (f8, f9, f10, f11, f12, f13) ⟨k + 1, h', rfl, m', hM', hD'⟩
  · intro n i s hi hI hw
    refine pk_le 6 i (fun q => absurd q (by omega)) (fun _ => ⟨pk_in i 6 hi, ?_⟩)
    rw [nI_clamp (show i < 2 ^ 31 by omega)]
    refine nm_e ⟨pk_in i 6 hi, nm_e ⟨pk_in i 6 hi, nm_e (nm_r (nI_1 i) (hw (vp_updL s.1 i 0, vp_updL s.2.1 i 0, upd s.2.2 i 0) ?_))⟩⟩
    intro t ht
    dsimp only
    by_cases e : t = i
    · rw [e, pk_us, pk_uLs, pk_uLs]
      exact ⟨rfl, rfl, rfl⟩
    · rw [pk_un e, pk_uLn e, pk_uLn e]
      exact hI t (by omega)
end
end
section
/-! weight, digit, valueOf -/
def mu_d (n w : Nat) : Nat := n / 5 ^ (4 - w) % 5
theorem mu_d5 (n w : Nat) : mu_d n w < 5 := Nat.mod_lt _ (by omega)
theorem mu_pw {w : Nat} (hw : w ≤ 4) : 0 < 5 ^ (4 - w) ∧ 5 ^ (4 - w) ≤ 625 := by
  have : w = 0 ∨ w = 1 ∨ w = 2 ∨ w = 3 ∨ w = 4 := by omega
  rcases this with e | e | e | e | e <;> subst e <;> decide
theorem mw_weight {post : Int32 → Prop} {w : Nat} (hw : w ≤ 4) (H : post (nI (5 ^ (4 - w)))) : wpX_weight post () (nI w) := by
  refine pk_loop (σ := Nat) (fun n i s => wX_weight_4 post n (nI s) (nI i)) (fun i s => w ≤ i ∧ s = 5 ^ (i - w)) 4 w 1 hw ⟨Nat.le_refl w, by rw [Nat.sub_self]⟩ ?_ ?_
  · intro n s hI
    refine pk_le 4 4 (fun _ => ?_) (fun q => absurd q (by omega))
    rw [hI.2]
    exact H
  · intro n i s hi hI hq
    refine pk_le 4 i (fun q => absurd q (by omega)) (fun _ => nm_r (pk_mul s 5) (nm_r (nI_1 i) (hq (s * 5) ⟨by omega, ?_⟩)))
    rw [hI.2, show i + 1 - w = i - w + 1 by omega, Nat.pow_succ]
theorem mw_digit {post : Int32 → Prop} {n w : Nat} (hn : n < 3125) (hw : w ≤ 4) (H : post (nI (mu_d n w))) : wpX_digit post () (nI n) (nI w) := by
  have hp := mu_pw hw
  unfold wpX_digit
  refine mw_weight hw ⟨nI_ne0 hp.1 (by omega), by decide, ?_⟩
  have hq : n / 5 ^ (4 - w) < 3125 := Nat.lt_of_le_of_lt (Nat.div_le_self _ _) hn
  rw [pk_div (by omega) hp.1 (by omega)]
  have e : nI (n / 5 ^ (4 - w)) - nI (n / 5 ^ (4 - w)) / 5 * 5 = nI (n / 5 ^ (4 - w) % 5) := pk_rem (d := 5) (by omega) (by omega) (by omega)
  rw [e]
  exact H
theorem mu_bit : ∀ m, m < 32 → ∀ t, t < 5 → ((((nI m).toUInt32 >>> ((nI t).toUInt32 &&& Int32.toUInt32 31)).toInt32 &&& 1) = 0 ↔ m.testBit t = false) := by decide +kernel
theorem mu_or : ∀ m, m < 32 → ∀ d, d < 5 → nI m ||| ((1 : Int32) <<< (nI d &&& 31)) = nI (m ||| 2 ^ d) ∧ (m ||| 2 ^ d) < 32 := by decide +kernel
theorem mu_orb : ∀ m, m < 32 → ∀ d, d < 5 → ∀ t, t < 5 → (m ||| 2 ^ d).testBit t = (m.testBit t || t == d) := by decide +kernel
/-- the pair may be taken -/
def mu_o (a2 : Nat → Int32) (f m P : Nat) (pw pt : Int32) (w t : Nat) : Prop :=
  w < 5 ∧ t < 5 ∧ a2 (5 * w + t) = 0 ∧ (w < f → mu_d P w = t) ∧ (w = f → m.testBit t = false) ∧ (nI w = pw → nI t = pt)
def mu_v (p : Nat → Nat) (a2 : Nat → Int32) (f m P : Nat) (pw pt : Int32) (w t : Nat) : Nat :=
  if w < 5 ∧ t < 5 ∧ a2 (5 * w + t) = 0 ∧ (w < f → mu_d P w = t) ∧ (w = f → m.testBit t = false) ∧ (nI w = pw → nI t = pt) then 3125 * p (5 * w + t) + t * 5 ^ (4 - w) else 1000000000
theorem mu_vp {p : Nat → Nat} {a2 : Nat → Int32} {f m P : Nat} {pw pt : Int32} {w t : Nat} (h : mu_o a2 f m P pw pt w t) : mu_v p a2 f m P pw pt w t = 3125 * p (5 * w + t) + t * 5 ^ (4 - w) := if_pos h
theorem mu_vn {p : Nat → Nat} {a2 : Nat → Int32} {f m P : Nat} {pw pt : Int32} {w t : Nat} (h : ¬ mu_o a2 f m P pw pt w t) : mu_v p a2 f m P pw pt w t = 1000000000 := if_neg h
theorem mu_vb {p : Nat → Nat} {a2 : Nat → Int32} {f m P : Nat} {pw pt : Int32} (hp : ∀ j, j < 25 → p j ≤ 99) (w t : Nat) :
    (mu_o a2 f m P pw pt w t → mu_v p a2 f m P pw pt w t ≤ 400000) ∧ mu_v p a2 f m P pw pt w t ≤ 1000000000 := by
  by_cases h : mu_o a2 f m P pw pt w t
  · have a := hp (5 * w + t) (by have := h.1; have := h.2.1; omega)
    have b := (mu_pw (w := w) (by have := h.1; omega)).2
    have c : t * 5 ^ (4 - w) ≤ 4 * 625 := Nat.mul_le_mul (by have := h.2.1; omega) b
    rw [mu_vp h]
    exact ⟨fun _ => by omega, by omega⟩
  · rw [mu_vn h]
    exact ⟨fun q => absurd q h, Nat.le_refl _⟩
section
variable {st en fo pa fw wo fp pw pt : Int32} {a1 a2 : Nat → Int32} {a3 : Nat → Int64} {a4 a5 a6 : Nat → Int32} {a7 : Nat → Int64}
variable {a8 a9 : Nat → Int64} {a10 a11 : Nat → Int32} {a12 : Nat → Int64} {a13 : Nat → Int32}
theorem mw_107 {post : Int64 → Prop} {p : Nat → Nat} {w t : Nat} {x3 : Int32} (hp : ∀ j, j < 25 → a1 j = nI (p j) ∧ p j ≤ 99) (hw : w < 5) (ht : t < 5)
    (h0 : x3 = 0 → post 1000000000) (h1 : ¬ x3 = 0 → post (lN (3125 * p (5 * w + t) + t * 5 ^ (4 - w)))) :
    wX_valueOf_107 post (nI w) (nI t) x3 st en fo pa fw wo fp pw pt a1 a2 a3 a4 a5 a6 a7 a8 a9 a10 a11 a12 a13 := by
  have e : (5 : Int32) * nI w + nI t = nI (5 * w + t) := by
    rw [show (5 : Int32) = nI 5 from rfl, pk_mul, nI_add]
  have q := hp (5 * w + t) (by omega)
  have r := mu_pw (w := w) (by omega)
  unfold wX_valueOf_107
  rw [e, nI_clamp (show 5 * w + t < 2 ^ 31 by omega), q.1, nI_l (show p (5 * w + t) < 2 ^ 31 by omega)]
  refine br_c h0 (fun g => ⟨pk_in (5 * w + t) 25 (by omega), mw_weight (by omega) ?_⟩)
  have c : t * 5 ^ (4 - w) ≤ 4 * 625 := Nat.mul_le_mul (by omega) r.2
  have e2 : (3125 : Int64) * lN (p (5 * w + t)) = lN (3125 * p (5 * w + t)) := lN_mul 3125 _
  rw [pk_mul, nI_l (show t * 5 ^ (4 - w) < 2 ^ 31 by omega), e2, lN_add]
  exact h1 g
theorem mw_81 {post : Int64 → Prop} {p : Nat → Nat} {w t : Nat} {x3 : Int32} (hp : ∀ j, j < 25 → a1 j = nI (p j) ∧ p j ≤ 99) (hw : w < 5) (ht : t < 5)
    (h0 : x3 = 0 ∨ ¬ (nI w = pw → nI t = pt) → post 1000000000) (h1 : ¬ x3 = 0 → (nI w = pw → nI t = pt) → post (lN (3125 * p (5 * w + t) + t * 5 ^ (4 - w)))) :
    wX_valueOf_81 post (nI w) (nI t) x3 st en fo pa fw wo fp pw pt a1 a2 a3 a4 a5 a6 a7 a8 a9 a10 a11 a12 a13 := by
  unfold wX_valueOf_81 wX_valueOf_105 wX_valueOf_106
  refine br_c (fun g => br_c (fun g0 => mw_107 hp hw ht (fun _ => h0 (Or.inl g0)) (fun q => absurd rfl q)) (fun g0 => br_c (fun g1 => mw_107 hp hw ht (fun q => absurd q (by decide)) (fun _ => h1 g0 (fun _ => g1))) (fun g1 => mw_107 hp hw ht (fun _ => h0 (Or.inr (fun y => g1 (y g)))) (fun q => absurd rfl q)))) (fun g => mw_107 hp hw ht (fun q => h0 (Or.inl q)) (fun q => h1 q (fun y => absurd y g)))
theorem mw_18 {post : Int64 → Prop} {p : Nat → Nat} {f m P w t : Nat} {z0 : Int32} (hp : ∀ j, j < 25 → a1 j = nI (p j) ∧ p j ≤ 99) (hf : f ≤ 4) (hm : m < 32) (hP : P < 3125) (hw : w < 5) (ht : t < 5)
    (h0 : ¬ (z0 ≠ 0 ∧ (w < f → mu_d P w = t) ∧ (w = f → m.testBit t = false) ∧ (nI w = pw → nI t = pt)) → post 1000000000)
    (h1 : z0 ≠ 0 ∧ (w < f → mu_d P w = t) ∧ (w = f → m.testBit t = false) ∧ (nI w = pw → nI t = pt) → post (lN (3125 * p (5 * w + t) + t * 5 ^ (4 - w)))) :
    wX_valueOf_18 post (nI w) (nI t) z0 st en fo pa (nI f) (nI m) (nI P) pw pt a1 a2 a3 a4 a5 a6 a7 a8 a9 a10 a11 a12 a13 := by
  have d5 := mu_d5 P w
  unfold wX_valueOf_18 wX_valueOf_79 wX_valueOf_80 wX_valueOf_47 wX_valueOf_48
  refine pk_le f w (fun g => ?_) (fun g => ?_)
  · refine pk_eq w f (fun g1 => br_c (fun g2 => ?_) (fun g2 => ek_if (mu_bit m hm t ht) (fun g3 => ?_) (fun g3 => ?_))) (fun g1 => ?_)
    · exact mw_81 hp hw ht (fun _ => h0 (fun y => y.1 g2)) (fun q => absurd rfl q)
    · exact mw_81 hp hw ht (fun q => h0 (fun y => q.elim (by decide) (fun q => q y.2.2.2))) (fun q q2 => h1 ⟨g2, fun y => absurd y (by omega), fun _ => g3, q2⟩)
    · exact mw_81 hp hw ht (fun _ => h0 (fun y => g3 (y.2.2.1 g1))) (fun q => absurd rfl q)
    · exact mw_81 hp hw ht (fun q => h0 (fun y => q.elim y.1 (fun q => q y.2.2.2))) (fun q q2 => h1 ⟨q, fun y => absurd y (by omega), fun y => absurd y g1, q2⟩)
  · refine br_c (fun g2 => ?_) (fun g2 => mw_digit hP (by omega) (pk_eq (mu_d P w) t (fun g3 => ?_) (fun g3 => ?_)))
    · exact mw_81 hp hw ht (fun _ => h0 (fun y => y.1 g2)) (fun q => absurd rfl q)
    · exact mw_81 hp hw ht (fun q => h0 (fun y => q.elim (by decide) (fun q => q y.2.2.2))) (fun q q2 => h1 ⟨g2, fun _ => g3, fun y => absurd y (by omega), q2⟩)
    · exact mw_81 hp hw ht (fun _ => h0 (fun y => g3 (y.2.1 g))) (fun q => absurd rfl q)
theorem mw_value {p : Nat → Nat} {f m P : Nat} (hp : ∀ j, j < 25 → a1 j = nI (p j) ∧ p j ≤ 99) (hf : f ≤ 4) (hm : m < 32) (hP : P < 3125) :
    hw_V (mu_v p a2 f m P pw pt) st en fo pa (nI f) (nI m) (nI P) pw pt a1 a2 a3 a4 a5 a6 a7 := by
  intro post w t b8 b9 b10 b11 b12 b13 hw ht H
  have e : (5 : Int32) * nI w + nI t = nI (5 * w + t) := by
    rw [show (5 : Int32) = nI 5 from rfl, pk_mul, nI_add]
  unfold wpX_valueOf
  dsimp only
  rw [e, nI_clamp (show 5 * w + t < 2 ^ 31 by omega)]
  refine ⟨pk_in (5 * w + t) 25 (by omega), br_c (fun g => mw_18 hp hf hm hP hw ht (fun q => ?_) (fun q => ?_)) (fun g => mw_18 hp hf hm hP hw ht (fun q => ?_) (fun q => absurd rfl q.1))⟩
  · rw [mu_vn (fun y => q ⟨by decide, y.2.2.2.1, y.2.2.2.2.1, y.2.2.2.2.2⟩)] at H
    exact H
  · rw [mu_vp ⟨hw, ht, g, q.2⟩] at H
    exact H
  · rw [mu_vn (fun y => g y.2.2.1)] at H
    exact H
end
end
section
/-! the six plans, and what solve answers -/
def mu_L : List Nat := [194, 294, 694, 894, 1294, 1394]
/-- which pairs are barred: the fourth and fifth worker's all but one, and perhaps the pair (0, 1) -/
def mu_B (a2 : Nat → Int32) : Prop :=
  (∀ j, j < 15 → j ≠ 1 → a2 j = 0) ∧ a2 18 = 0 ∧ a2 24 = 0 ∧ (∀ j, 15 ≤ j → j < 20 → j ≠ 18 → a2 j ≠ 0) ∧ (∀ j, 20 ≤ j → j < 25 → j ≠ 24 → a2 j ≠ 0)
/-- a plan's price times 3125 plus its number -/
def mu_V (p : Nat → Nat) (n : Nat) : Nat := 3125 * (p (mu_d n 0) + p (5 + mu_d n 1) + p (10 + mu_d n 2) + p (15 + mu_d n 3) + p (20 + mu_d n 4)) + n
def mu_F (a2 : Nat → Int32) (n : Nat) : Prop := n ∈ mu_L ∧ a2 (mu_d n 0) = 0
/-- the plan n is in the part -/
def mu_in (f m P n : Nat) : Prop := (∀ i, i < f → mu_d n i = mu_d P i) ∧ m.testBit (mu_d n f) = false
def mu_pin (pw pt : Int32) (n : Nat) : Prop := ∀ w, w < 5 → nI w = pw → nI (mu_d n w) = pt
def mu_all (a2 : Nat → Int32) (f m P : Nat) (pw pt : Int32) (n : Nat) : Prop := ∀ w, w < 5 → mu_o a2 f m P pw pt w (mu_d n w)
theorem mu_five {w : Nat} (h : w < 5) : w = 0 ∨ w = 1 ∨ w = 2 ∨ w = 3 ∨ w = 4 := by omega
theorem mu_six {n : Nat} (h : n ∈ mu_L) : n = 194 ∨ n = 294 ∨ n = 694 ∨ n = 894 ∨ n = 1294 ∨ n = 1394 := by
  unfold mu_L at h
  simp only [List.mem_cons, List.not_mem_nil, or_false] at h
  exact h
theorem mu_dg : ∀ n ∈ mu_L, mu_d n 0 < 3 ∧ mu_d n 1 < 3 ∧ mu_d n 2 < 3 ∧ mu_d n 3 = 3 ∧ mu_d n 4 = 4 := by decide +kernel
theorem mu_num : ∀ n ∈ mu_L, mu_d n 0 * 625 + mu_d n 1 * 125 + mu_d n 2 * 25 + mu_d n 3 * 5 + mu_d n 4 * 1 = n ∧ n < 3125 := by decide +kernel
theorem mu_allI {a2 : Nat → Int32} {f m P n : Nat} {pw pt : Int32} (hB : mu_B a2) (hf : f ≤ 4) (hn : n ∈ mu_L) :
    mu_all a2 f m P pw pt n ↔ (mu_F a2 n ∧ mu_in f m P n ∧ mu_pin pw pt n) := by
  constructor
  · intro h
    refine ⟨⟨hn, ?_⟩, ⟨fun i hi => ?_, ?_⟩, fun w hw => (h w hw).2.2.2.2.2⟩
    · have q := (h 0 (by omega)).2.2.1
      rw [show 5 * 0 + mu_d n 0 = mu_d n 0 by omega] at q
      exact q
    · exact ((h i (by omega)).2.2.2.1 hi).symm
    · exact (h f (by omega)).2.2.2.2.1 rfl
  · intro h w hw
    obtain ⟨⟨_, h0⟩, ⟨h1, h2⟩, h3⟩ := h
    obtain ⟨g0, g1, g2, g3, g4⟩ := mu_dg n hn
    refine ⟨hw, mu_d5 n w, ?_, fun q => (h1 w q).symm, fun q => by rw [q]; exact h2, h3 w hw⟩
    rcases mu_five hw with e | e | e | e | e <;> subst e
    · rw [show 5 * 0 + mu_d n 0 = mu_d n 0 by omega]
      exact h0
    · exact hB.1 _ (by omega) (by omega)
    · exact hB.1 _ (by omega) (by omega)
    · rw [g3]
      exact hB.2.1
    · rw [g4]
      exact hB.2.2.1
theorem mu_sum {p : Nat → Nat} {a2 : Nat → Int32} {f m P n : Nat} {pw pt : Int32} (hn : n ∈ mu_L) (h : mu_all a2 f m P pw pt n) :
    mu_v p a2 f m P pw pt 0 (mu_d n 0) + mu_v p a2 f m P pw pt 1 (mu_d n 1) + mu_v p a2 f m P pw pt 2 (mu_d n 2) + mu_v p a2 f m P pw pt 3 (mu_d n 3) + mu_v p a2 f m P pw pt 4 (mu_d n 4) = mu_V p n := by
  have e0 : mu_v p a2 f m P pw pt 0 (mu_d n 0) = 3125 * p (5 * 0 + mu_d n 0) + mu_d n 0 * 625 := mu_vp (h 0 (by omega))
  have e1 : mu_v p a2 f m P pw pt 1 (mu_d n 1) = 3125 * p (5 + mu_d n 1) + mu_d n 1 * 125 := mu_vp (h 1 (by omega))
  have e2 : mu_v p a2 f m P pw pt 2 (mu_d n 2) = 3125 * p (10 + mu_d n 2) + mu_d n 2 * 25 := mu_vp (h 2 (by omega))
  have e3 : mu_v p a2 f m P pw pt 3 (mu_d n 3) = 3125 * p (15 + mu_d n 3) + mu_d n 3 * 5 := mu_vp (h 3 (by omega))
  have e4 : mu_v p a2 f m P pw pt 4 (mu_d n 4) = 3125 * p (20 + mu_d n 4) + mu_d n 4 * 1 := mu_vp (h 4 (by omega))
  rw [show 5 * 0 + mu_d n 0 = mu_d n 0 by omega] at e0
  have q := (mu_num n hn).1
  unfold mu_V
  omega
theorem mu_opt {c : Nat → Nat → Nat} {h : Nat → Nat} {n : Nat} (hn : n ∈ mu_L) (hO : hu_O c h) :
    hu_tot c h 5 ≤ c 0 (mu_d n 0) + c 1 (mu_d n 1) + c 2 (mu_d n 2) + c 3 (mu_d n 3) + c 4 (mu_d n 4) := by
  obtain ⟨_, _, u, v, hf, ht⟩ := hO
  rcases mu_six hn with e | e | e | e | e | e <;> subst e
  · show hu_tot c h 5 ≤ c 0 0 + c 1 1 + c 2 2 + c 3 3 + c 4 4
    have g0 : u 1 + v 1 ≤ (c 0 0 : Int) := hf 1 1 (by omega) (by omega) (by omega) (by omega)
    have g1 : u 2 + v 2 ≤ (c 1 1 : Int) := hf 2 2 (by omega) (by omega) (by omega) (by omega)
    have g2 : u 3 + v 3 ≤ (c 2 2 : Int) := hf 3 3 (by omega) (by omega) (by omega) (by omega)
    have g3 : u 4 + v 4 ≤ (c 3 3 : Int) := hf 4 4 (by omega) (by omega) (by omega) (by omega)
    have g4 : u 5 + v 5 ≤ (c 4 4 : Int) := hf 5 5 (by omega) (by omega) (by omega) (by omega)
    omega
  · show hu_tot c h 5 ≤ c 0 0 + c 1 2 + c 2 1 + c 3 3 + c 4 4
    have g0 : u 1 + v 1 ≤ (c 0 0 : Int) := hf 1 1 (by omega) (by omega) (by omega) (by omega)
    have g1 : u 2 + v 3 ≤ (c 1 2 : Int) := hf 2 3 (by omega) (by omega) (by omega) (by omega)
    have g2 : u 3 + v 2 ≤ (c 2 1 : Int) := hf 3 2 (by omega) (by omega) (by omega) (by omega)
    have g3 : u 4 + v 4 ≤ (c 3 3 : Int) := hf 4 4 (by omega) (by omega) (by omega) (by omega)
    have g4 : u 5 + v 5 ≤ (c 4 4 : Int) := hf 5 5 (by omega) (by omega) (by omega) (by omega)
    omega
  · show hu_tot c h 5 ≤ c 0 1 + c 1 0 + c 2 2 + c 3 3 + c 4 4
    have g0 : u 1 + v 2 ≤ (c 0 1 : Int) := hf 1 2 (by omega) (by omega) (by omega) (by omega)
    have g1 : u 2 + v 1 ≤ (c 1 0 : Int) := hf 2 1 (by omega) (by omega) (by omega) (by omega)
    have g2 : u 3 + v 3 ≤ (c 2 2 : Int) := hf 3 3 (by omega) (by omega) (by omega) (by omega)
    have g3 : u 4 + v 4 ≤ (c 3 3 : Int) := hf 4 4 (by omega) (by omega) (by omega) (by omega)
    have g4 : u 5 + v 5 ≤ (c 4 4 : Int) := hf 5 5 (by omega) (by omega) (by omega) (by omega)
    omega
  · show hu_tot c h 5 ≤ c 0 1 + c 1 2 + c 2 0 + c 3 3 + c 4 4
    have g0 : u 1 + v 2 ≤ (c 0 1 : Int) := hf 1 2 (by omega) (by omega) (by omega) (by omega)
    have g1 : u 2 + v 3 ≤ (c 1 2 : Int) := hf 2 3 (by omega) (by omega) (by omega) (by omega)
    have g2 : u 3 + v 1 ≤ (c 2 0 : Int) := hf 3 1 (by omega) (by omega) (by omega) (by omega)
    have g3 : u 4 + v 4 ≤ (c 3 3 : Int) := hf 4 4 (by omega) (by omega) (by omega) (by omega)
    have g4 : u 5 + v 5 ≤ (c 4 4 : Int) := hf 5 5 (by omega) (by omega) (by omega) (by omega)
    omega
  · show hu_tot c h 5 ≤ c 0 2 + c 1 0 + c 2 1 + c 3 3 + c 4 4
    have g0 : u 1 + v 3 ≤ (c 0 2 : Int) := hf 1 3 (by omega) (by omega) (by omega) (by omega)
    have g1 : u 2 + v 1 ≤ (c 1 0 : Int) := hf 2 1 (by omega) (by omega) (by omega) (by omega)
    have g2 : u 3 + v 2 ≤ (c 2 1 : Int) := hf 3 2 (by omega) (by omega) (by omega) (by omega)
    have g3 : u 4 + v 4 ≤ (c 3 3 : Int) := hf 4 4 (by omega) (by omega) (by omega) (by omega)
    have g4 : u 5 + v 5 ≤ (c 4 4 : Int) := hf 5 5 (by omega) (by omega) (by omega) (by omega)
    omega
  · show hu_tot c h 5 ≤ c 0 2 + c 1 1 + c 2 0 + c 3 3 + c 4 4
    have g0 : u 1 + v 3 ≤ (c 0 2 : Int) := hf 1 3 (by omega) (by omega) (by omega) (by omega)
    have g1 : u 2 + v 2 ≤ (c 1 1 : Int) := hf 2 2 (by omega) (by omega) (by omega) (by omega)
    have g2 : u 3 + v 1 ≤ (c 2 0 : Int) := hf 3 1 (by omega) (by omega) (by omega) (by omega)
    have g3 : u 4 + v 4 ≤ (c 3 3 : Int) := hf 4 4 (by omega) (by omega) (by omega) (by omega)
    have g4 : u 5 + v 5 ≤ (c 4 4 : Int) := hf 5 5 (by omega) (by omega) (by omega) (by omega)
    omega
theorem mu_per {c : Nat → Nat → Nat} {a2 : Nat → Int32} {f m P : Nat} {pw pt : Int32} {h : Nat → Nat} (hB : mu_B a2)
    (hr : ∀ t, 1 ≤ t → t ≤ 5 → 1 ≤ h t ∧ h t ≤ 5) (hi : ∀ s t, 1 ≤ s → s ≤ 5 → 1 ≤ t → t ≤ 5 → h s = h t → s = t)
    (ho : ∀ t, 1 ≤ t → t ≤ 5 → mu_o a2 f m P pw pt (h t - 1) (t - 1)) :
    ∃ n, n ∈ mu_L ∧ mu_all a2 f m P pw pt n ∧ hu_tot c h 5 = c 0 (mu_d n 0) + c 1 (mu_d n 1) + c 2 (mu_d n 2) + c 3 (mu_d n 3) + c 4 (mu_d n 4) := by
  have k4 : ∀ t, 1 ≤ t → t ≤ 5 → t ≠ 4 → h t ≠ 4 := fun t ta tb tn e => by
    have q := (ho t ta tb).2.2.1
    rw [e] at q
    exact hB.2.2.2.1 (5 * (4 - 1) + (t - 1)) (by omega) (by omega) (by omega) q
  have k5 : ∀ t, 1 ≤ t → t ≤ 5 → t ≠ 5 → h t ≠ 5 := fun t ta tb tn e => by
    have q := (ho t ta tb).2.2.1
    rw [e] at q
    exact hB.2.2.2.2 (5 * (5 - 1) + (t - 1)) (by omega) (by omega) (by omega) q
  have r1 := hr 1 (by omega) (by omega)
  have r2 := hr 2 (by omega) (by omega)
  have r3 := hr 3 (by omega) (by omega)
  have r4 := hr 4 (by omega) (by omega)
  have r5 := hr 5 (by omega) (by omega)
  have q14 := k4 1 (by omega) (by omega) (by omega)
  have q24 := k4 2 (by omega) (by omega) (by omega)
  have q34 := k4 3 (by omega) (by omega) (by omega)
  have q54 := k4 5 (by omega) (by omega) (by omega)
  have q15 := k5 1 (by omega) (by omega) (by omega)
  have q25 := k5 2 (by omega) (by omega) (by omega)
  have q35 := k5 3 (by omega) (by omega) (by omega)
  have q45 := k5 4 (by omega) (by omega) (by omega)
  have n12 : h 1 ≠ h 2 := fun e => absurd (hi 1 2 (by omega) (by omega) (by omega) (by omega) e) (by omega)
  have n13 : h 1 ≠ h 3 := fun e => absurd (hi 1 3 (by omega) (by omega) (by omega) (by omega) e) (by omega)
  have n14 : h 1 ≠ h 4 := fun e => absurd (hi 1 4 (by omega) (by omega) (by omega) (by omega) e) (by omega)
  have n15 : h 1 ≠ h 5 := fun e => absurd (hi 1 5 (by omega) (by omega) (by omega) (by omega) e) (by omega)
  have n23 : h 2 ≠ h 3 := fun e => absurd (hi 2 3 (by omega) (by omega) (by omega) (by omega) e) (by omega)
  have n24 : h 2 ≠ h 4 := fun e => absurd (hi 2 4 (by omega) (by omega) (by omega) (by omega) e) (by omega)
  have n25 : h 2 ≠ h 5 := fun e => absurd (hi 2 5 (by omega) (by omega) (by omega) (by omega) e) (by omega)
  have n34 : h 3 ≠ h 4 := fun e => absurd (hi 3 4 (by omega) (by omega) (by omega) (by omega) e) (by omega)
  have n35 : h 3 ≠ h 5 := fun e => absurd (hi 3 5 (by omega) (by omega) (by omega) (by omega) e) (by omega)
  have n45 : h 4 ≠ h 5 := fun e => absurd (hi 4 5 (by omega) (by omega) (by omega) (by omega) e) (by omega)
  have o1 := ho 1 (by omega) (by omega)
  have o2 := ho 2 (by omega) (by omega)
  have o3 := ho 3 (by omega) (by omega)
  have o4 := ho 4 (by omega) (by omega)
  have o5 := ho 5 (by omega) (by omega)
  have d1 : h 1 = 1 ∨ h 1 = 2 ∨ h 1 = 3 := by omega
  have d2 : h 2 = 1 ∨ h 2 = 2 ∨ h 2 = 3 := by omega
  have d3 : h 3 = 1 ∨ h 3 = 2 ∨ h 3 = 3 := by omega
  have e4 : h 4 = 4 := by
    rcases d1 with e1 | e1 | e1 <;> rcases d2 with e2 | e2 | e2 <;> rcases d3 with e3 | e3 | e3 <;> omega
  have e5 : h 5 = 5 := by
    rcases d1 with e1 | e1 | e1 <;> rcases d2 with e2 | e2 | e2 <;> rcases d3 with e3 | e3 | e3 <;> omega
  have T : hu_tot c h 5 = 0 + c (h 1 - 1) 0 + c (h 2 - 1) 1 + c (h 3 - 1) 2 + c (h 4 - 1) 3 + c (h 5 - 1) 4 := rfl
  rw [e4, e5] at T
  rw [e4] at o4
  rw [e5] at o5
  rcases d1 with e1 | e1 | e1 <;> rcases d2 with e2 | e2 | e2 <;> rcases d3 with e3 | e3 | e3 <;> rw [e1] at T o1 <;> rw [e2] at T o2 <;> rw [e3] at T o3
  · omega
  · omega
  · omega
  · omega
  · omega
  · refine ⟨194, by decide, ?_, ?_⟩
    · intro w hw
      rcases mu_five hw with e | e | e | e | e <;> subst e
      · exact o1
      · exact o2
      · exact o3
      · exact o4
      · exact o5
    · show hu_tot c h 5 = c 0 0 + c 1 1 + c 2 2 + c 3 3 + c 4 4
      rw [T]
      show 0 + c 0 0 + c 1 1 + c 2 2 + c 3 3 + c 4 4 = c 0 0 + c 1 1 + c 2 2 + c 3 3 + c 4 4
      omega
  · omega
  · refine ⟨294, by decide, ?_, ?_⟩
    · intro w hw
      rcases mu_five hw with e | e | e | e | e <;> subst e
      · exact o1
      · exact o3
      · exact o2
      · exact o4
      · exact o5
    · show hu_tot c h 5 = c 0 0 + c 1 2 + c 2 1 + c 3 3 + c 4 4
      rw [T]
      show 0 + c 0 0 + c 2 1 + c 1 2 + c 3 3 + c 4 4 = c 0 0 + c 1 2 + c 2 1 + c 3 3 + c 4 4
      omega
  · omega
  · omega
  · omega
  · refine ⟨694, by decide, ?_, ?_⟩
    · intro w hw
      rcases mu_five hw with e | e | e | e | e <;> subst e
      · exact o2
      · exact o1
      · exact o3
      · exact o4
      · exact o5
    · show hu_tot c h 5 = c 0 1 + c 1 0 + c 2 2 + c 3 3 + c 4 4
      rw [T]
      show 0 + c 1 0 + c 0 1 + c 2 2 + c 3 3 + c 4 4 = c 0 1 + c 1 0 + c 2 2 + c 3 3 + c 4 4
      omega
  · omega
  · omega
  · omega
  · refine ⟨1294, by decide, ?_, ?_⟩
    · intro w hw
      rcases mu_five hw with e | e | e | e | e <;> subst e
      · exact o3
      · exact o1
      · exact o2
      · exact o4
      · exact o5
    · show hu_tot c h 5 = c 0 2 + c 1 0 + c 2 1 + c 3 3 + c 4 4
      rw [T]
      show 0 + c 1 0 + c 2 1 + c 0 2 + c 3 3 + c 4 4 = c 0 2 + c 1 0 + c 2 1 + c 3 3 + c 4 4
      omega
  · omega
  · omega
  · omega
  · refine ⟨894, by decide, ?_, ?_⟩
    · intro w hw
      rcases mu_five hw with e | e | e | e | e <;> subst e
      · exact o2
      · exact o3
      · exact o1
      · exact o4
      · exact o5
    · show hu_tot c h 5 = c 0 1 + c 1 2 + c 2 0 + c 3 3 + c 4 4
      rw [T]
      show 0 + c 2 0 + c 0 1 + c 1 2 + c 3 3 + c 4 4 = c 0 1 + c 1 2 + c 2 0 + c 3 3 + c 4 4
      omega
  · omega
  · refine ⟨1394, by decide, ?_, ?_⟩
    · intro w hw
      rcases mu_five hw with e | e | e | e | e <;> subst e
      · exact o3
      · exact o2
      · exact o1
      · exact o4
      · exact o5
    · show hu_tot c h 5 = c 0 2 + c 1 1 + c 2 0 + c 3 3 + c 4 4
      rw [T]
      show 0 + c 2 0 + c 1 1 + c 0 2 + c 3 3 + c 4 4 = c 0 2 + c 1 1 + c 2 0 + c 3 3 + c 4 4
      omega
  · omega
  · omega
  · omega
  · omega
  · omega
theorem mu_Vb {p : Nat → Nat} (hp : ∀ j, j < 25 → p j ≤ 99) {n : Nat} (hn : n < 3125) : mu_V p n < 2000000 ∧ mu_V p n % 3125 = n ∧ mu_V p n / 3125 = p (mu_d n 0) + p (5 + mu_d n 1) + p (10 + mu_d n 2) + p (15 + mu_d n 3) + p (20 + mu_d n 4) := by
  have d0 := mu_d5 n 0
  have d1 := mu_d5 n 1
  have d2 := mu_d5 n 2
  have d3 := mu_d5 n 3
  have d4 := mu_d5 n 4
  have h0 := hp (mu_d n 0) (by omega)
  have h1 := hp (5 + mu_d n 1) (by omega)
  have h2 := hp (10 + mu_d n 2) (by omega)
  have h3 := hp (15 + mu_d n 3) (by omega)
  have h4 := hp (20 + mu_d n 4) (by omega)
  unfold mu_V
  omega
section
variable {st en fo pa fw wo fp pw pt : Int32} {a1 a2 : Nat → Int32} {a3 : Nat → Int64} {a4 a5 a6 : Nat → Int32} {a7 : Nat → Int64}
variable {a8 a9 : Nat → Int64} {a10 a11 : Nat → Int32} {a12 : Nat → Int64} {a13 : Nat → Int32}
/-- solve: the cheapest plan of the part, or more than any plan if the part is empty -/
theorem mw_solve {post : Int64 → St2 → Prop} {p : Nat → Nat} {f m P : Nat} (hp : ∀ j, j < 25 → a1 j = nI (p j) ∧ p j ≤ 99) (hB : mu_B a2) (hf : f ≤ 4) (hm : m < 32) (hP : P < 3125)
    (H1 : ∀ (n : Nat) (b8 b9 : Nat → Int64) (b10 b11 : Nat → Int32) (b12 : Nat → Int64) (b13 : Nat → Int32), mu_F a2 n → mu_in f m P n → mu_pin pw pt n →
      (∀ n', mu_F a2 n' → mu_in f m P n' → mu_pin pw pt n' → mu_V p n ≤ mu_V p n') → post (lN (mu_V p n)) (st, en, fo, pa, nI f, nI m, nI P, pw, pt, a1, a2, a3, a4, a5, a6, a7, b8, b9, b10, b11, b12, b13))
    (H2 : ∀ (v : Nat) (b8 b9 : Nat → Int64) (b10 b11 : Nat → Int32) (b12 : Nat → Int64) (b13 : Nat → Int32), 1000000000 ≤ v → v ≤ 5000000000 →
      (∀ n', mu_F a2 n' → mu_in f m P n' → mu_pin pw pt n' → False) → post (lN v) (st, en, fo, pa, nI f, nI m, nI P, pw, pt, a1, a2, a3, a4, a5, a6, a7, b8, b9, b10, b11, b12, b13)) :
    wpX_solve post (st, en, fo, pa, nI f, nI m, nI P, pw, pt, a1, a2, a3, a4, a5, a6, a7, a8, a9, a10, a11, a12, a13) := by
  have hp' : ∀ j, j < 25 → p j ≤ 99 := fun j hj => (hp j hj).2
  refine hw_solve (mw_value hp hf hm hP) (fun w t => (mu_vb hp' w t).2) ?_
  intro h b8 b9 b10 b11 b12 b13 hO
  have opt : ∀ n', mu_F a2 n' → mu_in f m P n' → mu_pin pw pt n' → hu_tot (mu_v p a2 f m P pw pt) h 5 ≤ mu_V p n' := fun n' hF hI hQ => by
    have a := mu_opt hF.1 hO
    rw [mu_sum hF.1 ((mu_allI hB hf hF.1).mpr ⟨hF, hI, hQ⟩)] at a
    exact a
  have T : hu_tot (mu_v p a2 f m P pw pt) h 5 = 0 + mu_v p a2 f m P pw pt (h 1 - 1) 0 + mu_v p a2 f m P pw pt (h 2 - 1) 1 + mu_v p a2 f m P pw pt (h 3 - 1) 2 + mu_v p a2 f m P pw pt (h 4 - 1) 3 + mu_v p a2 f m P pw pt (h 5 - 1) 4 := rfl
  by_cases hv : 1000000000 ≤ hu_tot (mu_v p a2 f m P pw pt) h 5
  · refine H2 _ b8 b9 b10 b11 b12 b13 hv ?_ (fun n' hF hI hQ => ?_)
    · have c1 := (mu_vb (a2 := a2) (f := f) (m := m) (P := P) (pw := pw) (pt := pt) hp' (h 1 - 1) 0).2
      have c2 := (mu_vb (a2 := a2) (f := f) (m := m) (P := P) (pw := pw) (pt := pt) hp' (h 2 - 1) 1).2
      have c3 := (mu_vb (a2 := a2) (f := f) (m := m) (P := P) (pw := pw) (pt := pt) hp' (h 3 - 1) 2).2
      have c4 := (mu_vb (a2 := a2) (f := f) (m := m) (P := P) (pw := pw) (pt := pt) hp' (h 4 - 1) 3).2
      have c5 := (mu_vb (a2 := a2) (f := f) (m := m) (P := P) (pw := pw) (pt := pt) hp' (h 5 - 1) 4).2
      omega
    · have a := opt n' hF hI hQ
      have b := (mu_Vb hp' (mu_num n' hF.1).2).1
      omega
  · have ho : ∀ t, 1 ≤ t → t ≤ 5 → mu_o a2 f m P pw pt (h t - 1) (t - 1) := fun t ta tb => by
      apply Classical.byContradiction
      intro hn
      have e := mu_vn (p := p) hn
      have : t = 1 ∨ t = 2 ∨ t = 3 ∨ t = 4 ∨ t = 5 := by omega
      rcases this with q | q | q | q | q <;> subst q
      · have e' : mu_v p a2 f m P pw pt (h 1 - 1) 0 = 1000000000 := e
        omega
      · have e' : mu_v p a2 f m P pw pt (h 2 - 1) 1 = 1000000000 := e
        omega
      · have e' : mu_v p a2 f m P pw pt (h 3 - 1) 2 = 1000000000 := e
        omega
      · have e' : mu_v p a2 f m P pw pt (h 4 - 1) 3 = 1000000000 := e
        omega
      · have e' : mu_v p a2 f m P pw pt (h 5 - 1) 4 = 1000000000 := e
        omega
    obtain ⟨n, hn, hA, hT⟩ := mu_per (c := mu_v p a2 f m P pw pt) hB hO.1 hO.2.1 ho
    rw [mu_sum hn hA] at hT
    obtain ⟨hF, hI, hQ⟩ := (mu_allI hB hf hn).mp hA
    rw [hT]
    rw [hT] at opt
    exact H1 n b8 b9 b10 b11 b12 b13 hF hI hQ opt
end
end
section
/-! plans in order: the parts that wait -/
theorem mu_inE {w m P n x : Nat} (h : mu_in w m P n) : mu_in w m n x ↔ mu_in w m P x :=
  ⟨fun q => ⟨fun i hi => (q.1 i hi).trans (h.1 i hi), q.2⟩, fun q => ⟨fun i hi => (q.1 i hi).trans (h.1 i hi).symm, q.2⟩⟩
/-- S: the values of all plans, in order, N of them -/
def mu_E (F : Nat → Prop) (V S : Nat → Nat) (N : Nat) : Prop :=
  N ≤ 6 ∧ (∀ n, F n → V n % 3125 = n ∧ V n < 2000000) ∧ (∀ r r', r < r' → r' < N → S r < S r') ∧
  (∀ r, r < N → ∃ n, F n ∧ V n = S r) ∧ (∀ n, F n → ∃ r, r < N ∧ S r = V n)
/-- nf plans are found; the np parts; U: plans that no part holds just now -/
def mu_I (F : Nat → Prop) (V S : Nat → Nat) (N : Nat) (U : Nat → Prop) (nf np : Nat) (a3 : Nat → Int64) (a4 a5 a6 : Nat → Int32) (a7 : Nat → Int64) (fx wx pl : Nat → Nat) : Prop :=
  nf ≤ N ∧ (∀ r, r < nf → a3 r = lN (S r)) ∧
  (∀ k, k < np → a5 k = nI (fx k) ∧ fx k ≤ 4 ∧ a6 k = nI (wx k) ∧ wx k < 32 ∧ F (pl k) ∧ a7 k = lN (V (pl k))) ∧
  (∀ k, k < np → a4 k ≠ 0 → mu_in (fx k) (wx k) (pl k) (pl k) ∧ ∀ n, F n → mu_in (fx k) (wx k) (pl k) n → V (pl k) ≤ V n ∧ ¬ U n ∧ ∀ r, r < nf → S r ≠ V n) ∧
  (∀ n, F n → (∀ r, r < nf → S r ≠ V n) → U n ∨ ∃ k, k < np ∧ a4 k ≠ 0 ∧ mu_in (fx k) (wx k) (pl k) n) ∧
  (∀ k k' n, k < np → k' < np → a4 k ≠ 0 → a4 k' ≠ 0 → F n → mu_in (fx k) (wx k) (pl k) n → mu_in (fx k') (wx k') (pl k') n → k = k') ∧
  (∀ n, F n → U n → ∀ r, r < nf → S r ≠ V n)
theorem mu_Iu {F : Nat → Prop} {V S : Nat → Nat} {N : Nat} {U U' : Nat → Prop} {nf np : Nat} {a3 : Nat → Int64} {a4 a5 a6 : Nat → Int32} {a7 : Nat → Int64} {fx wx pl : Nat → Nat}
    (h : mu_I F V S N U nf np a3 a4 a5 a6 a7 fx wx pl) (e : ∀ n, F n → (U n ↔ U' n)) : mu_I F V S N U' nf np a3 a4 a5 a6 a7 fx wx pl := by
  obtain ⟨h1, h2, h3, h4, h5, h6, h7⟩ := h
  refine ⟨h1, h2, h3, fun k hk hw => ⟨(h4 k hk hw).1, fun n hn hi => ?_⟩, fun n hn hu => ?_, h6, fun n hn hu => h7 n hn ((e n hn).mpr hu)⟩
  · obtain ⟨q1, q2, q3⟩ := (h4 k hk hw).2 n hn hi
    exact ⟨q1, fun y => q2 ((e n hn).mpr y), q3⟩
  · rcases h5 n hn hu with q | q
    · exact Or.inl ((e n hn).mp q)
    · exact Or.inr q
theorem mu_add1 {F : Nat → Prop} {V S : Nat → Nat} {N : Nat} {U : Nat → Prop} {nf np w m P n : Nat} {a3 : Nat → Int64} {a4 a5 a6 : Nat → Int32} {a7 : Nat → Int64} {fx wx pl : Nat → Nat}
    (h : mu_I F V S N U nf np a3 a4 a5 a6 a7 fx wx pl) (w4 : w ≤ 4) (m32 : m < 32) (hF : F n) (hin : mu_in w m P n) (hmin : ∀ n', F n' → mu_in w m P n' → V n ≤ V n') (hU : ∀ n', F n' → mu_in w m P n' → U n') :
    mu_I F V S N (fun n' => U n' ∧ ¬ mu_in w m P n') nf (np + 1) a3 (upd a4 np 1) (upd a5 np (nI w)) (upd a6 np (nI m)) (vp_updL a7 np (lN (V n))) (hu_u fx np w) (hu_u wx np m) (hu_u pl np n) := by
  obtain ⟨h1, h2, h3, h4, h5, h6, h7⟩ := h
  refine ⟨h1, h2, fun k hk => ?_, fun k hk hw => ?_, fun x hx hu => ?_, fun k k' x hk hk' hw hw' hx => ?_, fun x hx hu => h7 x hx hu.1⟩
  · by_cases e : k = np
    · rw [e, pk_us, pk_us, pk_uLs, hu_us, hu_us, hu_us]
      exact ⟨rfl, w4, rfl, m32, hF, rfl⟩
    · rw [pk_un e, pk_un e, pk_uLn e, hu_un e, hu_un e, hu_un e]
      exact h3 k (by omega)
  · by_cases e : k = np
    · rw [e, hu_us, hu_us, hu_us]
      refine ⟨(mu_inE hin).mpr hin, fun x hx hi => ?_⟩
      have hi' := (mu_inE hin).mp hi
      exact ⟨hmin x hx hi', fun y => y.2 hi', h7 x hx (hU x hx hi')⟩
    · rw [pk_un e] at hw
      rw [hu_un e, hu_un e, hu_un e]
      obtain ⟨q1, q2⟩ := h4 k (by omega) hw
      refine ⟨q1, fun x hx hi => ?_⟩
      obtain ⟨r1, r2, r3⟩ := q2 x hx hi
      exact ⟨r1, fun y => r2 y.1, r3⟩
  · by_cases i : mu_in w m P x
    · refine Or.inr ⟨np, by omega, ?_, ?_⟩
      · rw [pk_us]
        decide
      · rw [hu_us, hu_us, hu_us]
        exact (mu_inE hin).mpr i
    · rcases h5 x hx hu with q | ⟨k, q1, q2, q3⟩
      · exact Or.inl ⟨q, i⟩
      · have e : k ≠ np := by omega
        refine Or.inr ⟨k, by omega, ?_, ?_⟩
        · rw [pk_un e]
          exact q2
        · rw [hu_un e, hu_un e, hu_un e]
          exact q3
  · by_cases e : k = np
    · by_cases e' : k' = np
      · intro _ _
        rw [e, e']
      · rw [e, hu_us, hu_us, hu_us, hu_un e', hu_un e', hu_un e']
        rw [pk_un e'] at hw'
        intro a b
        exact absurd (hU x hx ((mu_inE hin).mp a)) ((h4 k' (by omega) hw').2 x hx b).2.1
    · by_cases e' : k' = np
      · rw [e', hu_us, hu_us, hu_us, hu_un e, hu_un e, hu_un e]
        rw [pk_un e] at hw
        intro a b
        exact absurd (hU x hx ((mu_inE hin).mp b)) ((h4 k (by omega) hw).2 x hx a).2.1
      · rw [hu_un e, hu_un e, hu_un e, hu_un e', hu_un e', hu_un e']
        rw [pk_un e] at hw
        rw [pk_un e'] at hw'
        exact h6 k k' x (by omega) (by omega) hw hw' hx
theorem mu_pin1 (pt : Int32) (n : Nat) : mu_pin (-1) pt n := by
  intro w hw e
  have : ∀ w, w < 5 → nI w ≠ -1 := by decide
  exact absurd e (this w hw)
section
variable {st en fo pa fw wo fp pw pt : Int32} {a1 a2 : Nat → Int32} {a3 : Nat → Int64} {a4 a5 a6 : Nat → Int32} {a7 : Nat → Int64}
variable {a8 a9 : Nat → Int64} {a10 a11 : Nat → Int32} {a12 : Nat → Int64} {a13 : Nat → Int32}
theorem mw_add {post : St2 → Prop} {p S : Nat → Nat} {N nf np w m P : Nat} {U : Nat → Prop} {fx wx pl : Nat → Nat}
    (hp : ∀ j, j < 25 → a1 j = nI (p j) ∧ p j ≤ 99) (hB : mu_B a2) (hE : mu_E (mu_F a2) (mu_V p) S N) (w4 : w ≤ 4) (m32 : m < 32) (hP : P < 3125) (hnp : np < 640)
    (hI : mu_I (mu_F a2) (mu_V p) S N U nf np a3 a4 a5 a6 a7 fx wx pl) (hU : ∀ n, mu_F a2 n → mu_in w m P n → U n)
    (H : ∀ (np' : Nat) (c4 c5 c6 : Nat → Int32) (c7 b8 b9 : Nat → Int64) (b10 b11 : Nat → Int32) (b12 : Nat → Int64) (b13 : Nat → Int32) (fx' wx' pl' : Nat → Nat), np ≤ np' → np' ≤ np + 1 →
      (∀ k, k < np → c5 k = a5 k ∧ c6 k = a6 k) → mu_I (mu_F a2) (mu_V p) S N (fun n => U n ∧ ¬ mu_in w m P n) nf np' a3 c4 c5 c6 c7 fx' wx' pl' →
      post (st, en, fo, nI np', nI w, nI m, nI P, -1, pt, a1, a2, a3, c4, c5, c6, c7, b8, b9, b10, b11, b12, b13)) :
    wpX_addPart post (st, en, fo, nI np, fw, wo, fp, -1, pt, a1, a2, a3, a4, a5, a6, a7, a8, a9, a10, a11, a12, a13) (nI w) (nI m) (nI P) := by
  unfold wpX_addPart wpX_setPart
  dsimp only
  refine mw_solve hp hB w4 m32 hP ?_ ?_
  · intro n b8 b9 b10 b11 b12 b13 hF hin _ hmin
    dsimp only
    have hv := (hE.2.1 n hF).2
    have g : ¬ (1000000000 : Int64) ≤ lN (mu_V p n) := fun q => absurd ((pk_lLE (a := 1000000000) (by omega) (by omega)).mp q) (by omega)
    rw [nI_clamp (show np < 2 ^ 31 by omega)]
    refine br_f g ⟨pk_in np 640 hnp, nm_e ⟨pk_in np 640 hnp, nm_e ⟨pk_in np 640 hnp, nm_e ⟨pk_in np 640 hnp, nm_e (nm_r (nI_1 np) ?_)⟩⟩⟩⟩
    refine H (np + 1) _ _ _ _ b8 b9 b10 b11 b12 b13 _ _ _ (by omega) (by omega) (fun k hk => ?_) (mu_add1 hI w4 m32 hF hin (fun n' h1 h2 => hmin n' h1 h2 (mu_pin1 pt n')) hU)
    rw [pk_un (by omega), pk_un (by omega)]
    exact ⟨rfl, rfl⟩
  · intro v b8 b9 b10 b11 b12 b13 hv hv' hno
    dsimp only
    have g : (1000000000 : Int64) ≤ lN v := (pk_lLE (a := 1000000000) (by omega) (by omega)).mpr hv
    refine br_t g (H np _ _ _ _ b8 b9 b10 b11 b12 b13 fx wx pl (by omega) (by omega) (fun k hk => ⟨rfl, rfl⟩) (mu_Iu hI (fun n hn => ⟨fun u => ⟨u, fun i => hno n hn i (mu_pin1 pt n)⟩, fun u => u.1⟩)))
/-- the plans of the part (f, m, P) that differ from P at w or later -/
def mu_U (f m P w n : Nat) : Prop := mu_in f m P n ∧ n ≠ P ∧ ∀ i, i < w → mu_d n i = mu_d P i
theorem mw_44 {post : St2 → Prop} {J : Int32 → Int32 → Int32 → Int32 → Int32 → Int32 → Int32 → Int32 → Int32 → Int32 → (Nat → Int32) → (Nat → Int32) → (Nat → Int64) → (Nat → Int32) → (Nat → Int32) → (Nat → Int32) → (Nat → Int64) → (Nat → Int64) → (Nat → Int64) → (Nat → Int32) → (Nat → Int32) → (Nat → Int64) → (Nat → Int32) → Prop} {p S : Nat → Nat} {N nf np f0 m0 b w m P : Nat} {fx wx pl : Nat → Nat}
    (hp : ∀ j, j < 25 → a1 j = nI (p j) ∧ p j ≤ 99) (hB : mu_B a2) (hE : mu_E (mu_F a2) (mu_V p) S N) (w4 : w ≤ 4) (m32 : m < 32) (hP : P < 3125) (hnp : np < 640)
    (hI : mu_I (mu_F a2) (mu_V p) S N (mu_U f0 m0 P w) nf np a3 a4 a5 a6 a7 fx wx pl)
    (C1 : ∀ n, mu_F a2 n → mu_U f0 m0 P w n → m.testBit (mu_d n w) = false)
    (C2 : ∀ n, mu_F a2 n → (∀ i, i < w → mu_d n i = mu_d P i) → m.testBit (mu_d n w) = false → mu_in f0 m0 P n)
    (H : ∀ (np' : Nat) (fw' wo' fp' : Int32) (c4 c5 c6 : Nat → Int32) (c7 b8 b9 : Nat → Int64) (b10 b11 : Nat → Int32) (b12 : Nat → Int64) (b13 : Nat → Int32) (fx' wx' pl' : Nat → Nat), np ≤ np' → np' ≤ np + 1 →
      (∀ k, k < np → c5 k = a5 k ∧ c6 k = a6 k) → mu_I (mu_F a2) (mu_V p) S N (mu_U f0 m0 P (w + 1)) nf np' a3 c4 c5 c6 c7 fx' wx' pl' →
      J (nI (w + 1)) st en fo (nI np') fw' wo' fp' (-1) pt a1 a2 a3 c4 c5 c6 c7 b8 b9 b10 b11 b12 b13) :
    wX_divide_44 post J (nI b) (nI P) (nI w) (nI m) st en fo (nI np) fw wo fp (-1) pt a1 a2 a3 a4 a5 a6 a7 a8 a9 a10 a11 a12 a13 := by
  have d5 := mu_d5 P w
  obtain ⟨o1, o2⟩ := mu_or m m32 _ d5
  have ob : ∀ n, (m ||| 2 ^ mu_d P w).testBit (mu_d n w) = (m.testBit (mu_d n w) || mu_d n w == mu_d P w) := fun n => mu_orb m m32 _ d5 _ (mu_d5 n w)
  unfold wX_divide_44
  refine mw_digit hP w4 ?_
  rw [o1]
  refine mw_add hp hB hE w4 o2 hP hnp hI (fun n hF hin => ?_) ?_
  · have q := hin.2
    rw [ob n, Bool.or_eq_false_iff] at q
    have ne : mu_d n w ≠ mu_d P w := fun e => by
      rw [e] at q
      simp at q
    exact ⟨C2 n hF hin.1 q.1, fun e => ne (by rw [e]), hin.1⟩
  · intro np' c4 c5 c6 c7 b8 b9 b10 b11 b12 b13 fx' wx' pl' k1 k2 k3 k4
    refine nm_r (nI_1 w) (H np' _ _ _ c4 c5 c6 c7 b8 b9 b10 b11 b12 b13 fx' wx' pl' k1 k2 k3 (mu_Iu k4 (fun n hF => ⟨fun u => ?_, fun u => ?_⟩)))
    · obtain ⟨⟨u1, u2, u3⟩, u4⟩ := u
      refine ⟨u1, u2, fun i hi => ?_⟩
      by_cases e : i = w
      · rw [e]
        apply Classical.byContradiction
        intro ne
        refine u4 ⟨u3, ?_⟩
        rw [ob n, C1 n hF ⟨u1, u2, u3⟩]
        simp [ne]
      · exact u3 i (by omega)
    · obtain ⟨u1, u2, u3⟩ := u
      refine ⟨⟨u1, u2, fun i hi => u3 i (by omega)⟩, fun y => ?_⟩
      have q := y.2
      rw [ob n, u3 w (by omega)] at q
      simp at q
theorem mw_div {post : St2 → Prop} {p S : Nat → Nat} {N nf np b : Nat} {fx wx pl : Nat → Nat}
    (hp : ∀ j, j < 25 → a1 j = nI (p j) ∧ p j ≤ 99) (hB : mu_B a2) (hE : mu_E (mu_F a2) (mu_V p) S N) (hnp : np + 5 ≤ 640) (hb : b < np)
    (hin : mu_in (fx b) (wx b) (pl b) (pl b))
    (hI : mu_I (mu_F a2) (mu_V p) S N (fun n => mu_in (fx b) (wx b) (pl b) n ∧ n ≠ pl b) nf np a3 a4 a5 a6 a7 fx wx pl)
    (H : ∀ (np' : Nat) (fw' wo' fp' : Int32) (c4 c5 c6 : Nat → Int32) (c7 b8 b9 : Nat → Int64) (b10 b11 : Nat → Int32) (b12 : Nat → Int64) (b13 : Nat → Int32) (fx' wx' pl' : Nat → Nat), np' ≤ np + 5 →
      mu_I (mu_F a2) (mu_V p) S N (fun _ => False) nf np' a3 c4 c5 c6 c7 fx' wx' pl' →
      post (st, en, fo, nI np', fw', wo', fp', -1, pt, a1, a2, a3, c4, c5, c6, c7, b8, b9, b10, b11, b12, b13)) :
    wpX_divide post (st, en, fo, nI np, fw, wo, fp, -1, pt, a1, a2, a3, a4, a5, a6, a7, a8, a9, a10, a11, a12, a13) (nI b) := by
  obtain ⟨q5, q5', q6, q6', qF, q7⟩ := hI.2.2.1 b hb
  obtain ⟨v1, v2⟩ := hE.2.1 _ qF
  have P5 : pl b < 3125 := (mu_num _ qF.1).2
  unfold wpX_divide
  dsimp only
  refine ⟨pk_in b 640 (by omega), by decide, ?_⟩
  rw [nI_clamp (show b < 2 ^ 31 by omega), q7, q5]
  have e : (lN (mu_V p (pl b)) - lN (mu_V p (pl b)) / 3125 * 3125).toInt32 = nI (pl b) := by
    have g : lN (mu_V p (pl b)) - lN (mu_V p (pl b)) / 3125 * 3125 = lN (mu_V p (pl b) % 3125) := pk_lRem (b := 3125) (by omega) (by omega) (by omega)
    rw [g, v1, lN_i]
  refine nm_r e ⟨pk_in b 640 (by omega), nm_e ?_⟩
  refine pk_loop (σ := Int32 × Int32 × Int32 × Int32 × (Nat → Int32) × (Nat → Int32) × (Nat → Int32) × (Nat → Int64) × (Nat → Int64) × (Nat → Int64) × (Nat → Int32) × (Nat → Int32) × (Nat → Int64) × (Nat → Int32))
    (fun n w s => wX_divide_19 post (nI b) (nI (pl b)) n (nI w) st en fo s.1 s.2.1 s.2.2.1 s.2.2.2.1 (-1) pt a1 a2 a3 s.2.2.2.2.1 s.2.2.2.2.2.1 s.2.2.2.2.2.2.1 s.2.2.2.2.2.2.2.1 s.2.2.2.2.2.2.2.2.1 s.2.2.2.2.2.2.2.2.2.1 s.2.2.2.2.2.2.2.2.2.2.1 s.2.2.2.2.2.2.2.2.2.2.2.1 s.2.2.2.2.2.2.2.2.2.2.2.2.1 s.2.2.2.2.2.2.2.2.2.2.2.2.2)
    (fun w s => ∃ (np' : Nat) (fx' wx' pl' : Nat → Nat), s.1 = nI np' ∧ fx b ≤ w ∧ np ≤ np' ∧ np' + fx b ≤ np + w ∧ s.2.2.2.2.2.1 b = nI (fx b) ∧ s.2.2.2.2.2.2.1 b = nI (wx b) ∧ mu_I (mu_F a2) (mu_V p) S N (mu_U (fx b) (wx b) (pl b) w) nf np' a3 s.2.2.2.2.1 s.2.2.2.2.2.1 s.2.2.2.2.2.2.1 s.2.2.2.2.2.2.2.1 fx' wx' pl')
    5 (fx b) (nI np, fw, wo, fp, a4, a5, a6, a7, a8, a9, a10, a11, a12, a13) (by omega) ⟨np, fx, wx, pl, rfl, Nat.le_refl _, Nat.le_refl _, Nat.le_refl _, q5, q6, mu_Iu hI (fun n hn => ⟨fun u => ⟨u.1, u.2, u.1.1⟩, fun u => ⟨u.1, u.2.1⟩⟩)⟩ ?_ ?_
  · intro n s hI'
    obtain ⟨pa', fw', wo', fp', c4, c5, c6, c7, b8, b9, b10, b11, b12, b13⟩ := s
    obtain ⟨np', fx', wx', pl', e1, e2, e3, e4, e5, e6, e7⟩ := hI'
    dsimp only at e1 e5 e6 e7
    refine pk_le 5 5 (fun _ => ?_) (fun q => absurd q (by omega))
    dsimp only
    rw [e1]
    refine H np' fw' wo' fp' c4 c5 c6 c7 b8 b9 b10 b11 b12 b13 fx' wx' pl' (by omega) (mu_Iu e7 (fun n hn => ⟨fun u => u.2.1 ?_, fun u => u.elim⟩))
    have g1 := (mu_num n hn.1).1
    have g2 := (mu_num _ qF.1).1
    have u3 := u.2.2
    rw [u3 0 (by omega), u3 1 (by omega), u3 2 (by omega), u3 3 (by omega), u3 4 (by omega)] at g1
    omega
  · intro n w s hw hI' hq
    obtain ⟨pa', fw', wo', fp', c4, c5, c6, c7, b8, b9, b10, b11, b12, b13⟩ := s
    obtain ⟨np', fx', wx', pl', e1, e2, e3, e4, e5, e6, e7⟩ := hI'
    dsimp only at e1 e5 e6 e7
    subst e1
    have G : ∀ m, m < 32 → (∀ n, mu_F a2 n → mu_U (fx b) (wx b) (pl b) w n → m.testBit (mu_d n w) = false) →
        (∀ n, mu_F a2 n → (∀ i, i < w → mu_d n i = mu_d (pl b) i) → m.testBit (mu_d n w) = false → mu_in (fx b) (wx b) (pl b) n) →
        wX_divide_44 post (wX_divide_19 post (nI b) (nI (pl b)) n) (nI b) (nI (pl b)) (nI w) (nI m) st en fo (nI np') fw' wo' fp' (-1) pt a1 a2 a3 c4 c5 c6 c7 b8 b9 b10 b11 b12 b13 := by
      intro m m32 C1 C2
      refine mw_44 hp hB hE (by omega) m32 P5 (by omega) e7 C1 C2 ?_
      intro np2 fw2 wo2 fp2 d4 d5 d6 d7 f8 f9 f10 f11 f12 f13 fx2 wx2 pl2 k1 k2 k3 k4
      refine hq (nI np2, fw2, wo2, fp2, d4, d5, d6, d7, f8, f9, f10, f11, f12, f13) ⟨np2, fx2, wx2, pl2, rfl, by omega, by omega, by omega, ?_, ?_, k4⟩
      · exact (k3 b (by omega)).1.trans e5
      · exact (k3 b (by omega)).2.trans e6
    refine pk_le 5 w (fun q => absurd q (by omega)) (fun _ => ⟨pk_in b 640 (by omega), ?_⟩)
    dsimp only
    rw [nI_clamp (show b < 2 ^ 31 by omega), e5, e6]
    refine pk_eq w (fx b) (fun ew => ⟨pk_in b 640 (by omega), G (wx b) q6' ?_ ?_⟩) (fun ew => G 0 (by omega) ?_ ?_)
    · intro n hn hu
      rw [ew]
      exact hu.1.2
    · intro n hn h1 h2
      rw [ew] at h1 h2
      exact ⟨h1, h2⟩
    · intro n hn hu
      exact Nat.zero_testBit _
    · intro n hn h1 h2
      refine ⟨fun i hi => h1 i (by omega), ?_⟩
      rw [h1 (fx b) (by omega)]
      exact hin.2
end
end
section
/-! findUpTo -/
theorem mu_take {F : Nat → Prop} {V S : Nat → Nat} {N nf np b : Nat} {a3 : Nat → Int64} {a4 a5 a6 : Nat → Int32} {a7 : Nat → Int64} {fx wx pl : Nat → Nat}
    (hE : mu_E F V S N) (h : mu_I F V S N (fun _ => False) nf np a3 a4 a5 a6 a7 fx wx pl) (hb : b < np) (hw : a4 b ≠ 0) (hm : ∀ k, k < np → a4 k ≠ 0 → V (pl b) ≤ V (pl k)) :
    nf < N ∧ V (pl b) = S nf ∧ mu_I F V S N (fun n => mu_in (fx b) (wx b) (pl b) n ∧ n ≠ pl b) (nf + 1) np (vp_updL a3 nf (lN (S nf))) (upd a4 b 0) a5 a6 a7 fx wx pl := by
  obtain ⟨h1, h2, h3, h4, h5, h6, h7⟩ := h
  obtain ⟨E1, E2, E3, E4, E5⟩ := hE
  have hF := (h3 b hb).2.2.2.2.1
  obtain ⟨q1, q2⟩ := h4 b hb hw
  have q3 := (q2 _ hF q1).2.2
  obtain ⟨r0, r1, r2⟩ := E5 _ hF
  have r3 : nf ≤ r0 := by
    apply Classical.byContradiction
    intro y
    exact q3 r0 (by omega) r2
  have hN : nf < N := by omega
  obtain ⟨n1, n2, n3⟩ := E4 nf hN
  have un : ∀ r, r < nf → S r ≠ V n1 := fun r hr e => by
    have := E3 r nf hr hN
    omega
  have hS : V (pl b) = S nf := by
    rcases h5 n1 n2 un with y | ⟨k, k1, k2, k3⟩
    · exact y.elim
    · have a := ((h4 k k1 k2).2 n1 n2 k3).1
      have c := hm k k1 k2
      by_cases e : nf = r0
      · rw [e, r2]
      · have := E3 nf r0 (by omega) r1
        omega
  have inj : ∀ n, F n → V n = V (pl b) → n = pl b := fun n hn e => by
    have a := (E2 n hn).1
    have c := (E2 _ hF).1
    rw [e] at a
    omega
  refine ⟨hN, hS, by omega, fun r hr => ?_, h3, fun k hk kw => ?_, fun n hn hu => ?_, fun k k' n hk hk' kw kw' => ?_, fun n hn hu r hr => ?_⟩
  · by_cases e : r = nf
    · rw [e, pk_uLs]
    · rw [pk_uLn e]
      exact h2 r (by omega)
  · have e : k ≠ b := fun e => by
      rw [e, pk_us] at kw
      exact kw rfl
    rw [pk_un e] at kw
    obtain ⟨p1, p2⟩ := h4 k hk kw
    refine ⟨p1, fun n hn hi => ?_⟩
    obtain ⟨s1, s2, s3⟩ := p2 n hn hi
    refine ⟨s1, fun y => e (h6 k b n hk hb kw hw hn hi y.1), fun r hr y => ?_⟩
    by_cases er : r = nf
    · rw [er, ← hS] at y
      have en := inj n hn y.symm
      rw [en] at hi
      exact e (h6 k b _ hk hb kw hw hF hi q1)
    · exact s3 r (by omega) y
  · rcases h5 n hn (fun r hr => hu r (by omega)) with y | ⟨k, k1, k2, k3⟩
    · exact y.elim
    · by_cases e : k = b
      · rw [e] at k3
        exact Or.inl ⟨k3, fun y => hu nf (by omega) (by rw [y, hS])⟩
      · exact Or.inr ⟨k, k1, by rw [pk_un e]; exact k2, k3⟩
  · have e : k ≠ b := fun e => by
      rw [e, pk_us] at kw
      exact kw rfl
    have e' : k' ≠ b := fun e => by
      rw [e, pk_us] at kw'
      exact kw' rfl
    rw [pk_un e] at kw
    rw [pk_un e'] at kw'
    exact h6 k k' n hk hk' kw kw'
  · by_cases er : r = nf
    · rw [er, ← hS]
      exact fun y => hu.2 (inj n hn y.symm)
    · exact (q2 n hn hu.1).2.2 r (by omega)
theorem mu_none {F : Nat → Prop} {V S : Nat → Nat} {N nf np : Nat} {a3 : Nat → Int64} {a4 a5 a6 : Nat → Int32} {a7 : Nat → Int64} {fx wx pl : Nat → Nat}
    (hE : mu_E F V S N) (h : mu_I F V S N (fun _ => False) nf np a3 a4 a5 a6 a7 fx wx pl) (hn : ∀ k, k < np → a4 k = 0) : nf = N := by
  obtain ⟨h1, h2, h3, h4, h5, h6, h7⟩ := h
  obtain ⟨E1, E2, E3, E4, E5⟩ := hE
  apply Classical.byContradiction
  intro y
  have hN : nf < N := by omega
  obtain ⟨n1, n2, n3⟩ := E4 nf hN
  rcases h5 n1 n2 (fun r hr e => by
    have := E3 r nf hr hN
    omega) with y | ⟨k, k1, k2, k3⟩
  · exact y
  · exact k2 (hn k k1)
section
variable {st en fo pa fw wo fp pw pt : Int32} {a1 a2 : Nat → Int32} {a3 : Nat → Int64} {a4 a5 a6 : Nat → Int32} {a7 : Nat → Int64}
variable {a8 a9 : Nat → Int64} {a10 a11 : Nat → Int32} {a12 : Nat → Int64} {a13 : Nat → Int32}
theorem mw_62 {post : St2 → Prop} {J : Int32 → Int32 → Int32 → Int32 → Int32 → Int32 → Int32 → Int32 → Int32 → Int32 → (Nat → Int32) → (Nat → Int32) → (Nat → Int64) → (Nat → Int32) → (Nat → Int32) → (Nat → Int32) → (Nat → Int64) → (Nat → Int64) → (Nat → Int64) → (Nat → Int32) → (Nat → Int32) → (Nat → Int64) → (Nat → Int32) → Prop} {x1 x2 : Int32} {np : Nat} (hnp : np ≤ 640)
    (H0 : (∀ k, k < np → a4 k = 0) → wX_findUpTo_125 post J x1 x2 (-1) 1 st en fo (nI np) fw wo fp pw pt a1 a2 a3 a4 a5 a6 a7 a8 a9 a10 a11 a12 a13)
    (H1 : ∀ b, b < np → a4 b ≠ 0 → (∀ k, k < np → a4 k ≠ 0 → (a7 b).toInt ≤ (a7 k).toInt) → wX_findUpTo_125 post J x1 x2 (nI b) 0 st en fo (nI np) fw wo fp pw pt a1 a2 a3 a4 a5 a6 a7 a8 a9 a10 a11 a12 a13) :
    ∃ n, wX_findUpTo_62 post J x1 x2 st en fo (nI np) fw wo fp pw pt a1 a2 a3 a4 a5 a6 a7 a8 a9 a10 a11 a12 a13 n (-1) 0 := by
  refine pk_loop (σ := Int32) (fun n i s => wX_findUpTo_62 post J x1 x2 st en fo (nI np) fw wo fp pw pt a1 a2 a3 a4 a5 a6 a7 a8 a9 a10 a11 a12 a13 n s (nI i))
    (fun i s => (s = -1 ∧ ∀ k, k < i → a4 k = 0) ∨ ∃ b, b < i ∧ s = nI b ∧ a4 b ≠ 0 ∧ ∀ k, k < i → a4 k ≠ 0 → (a7 b).toInt ≤ (a7 k).toInt)
    np 0 (-1) (by omega) (Or.inl ⟨rfl, fun k hk => absurd hk (by omega)⟩) ?_ ?_
  · intro n s hI
    refine pk_le np np (fun _ => ?_) (fun q => absurd q (by omega))
    rcases hI with ⟨e, h⟩ | ⟨b, b1, e, b2, b3⟩
    · rw [e]
      exact br_f (by decide) (H0 h)
    · rw [e]
      exact br_t (nI_pos' (by omega)) (H1 b b1 b2 b3)
  · intro n i s hi hI hq
    refine pk_le np i (fun q => absurd q (by omega)) (fun _ => ⟨pk_in i 640 (by omega), ?_⟩)
    rw [nI_clamp (show i < 2 ^ 31 by omega)]
    refine br_c (fun g => nm_r (nI_1 i) (hq s ?_)) (fun g => ?_)
    · rcases hI with ⟨e, h⟩ | ⟨b, b1, e, b2, b3⟩
      · refine Or.inl ⟨e, fun k hk => ?_⟩
        by_cases ek : k = i
        · rw [ek]
          exact g
        · exact h k (by omega)
      · refine Or.inr ⟨b, by omega, e, b2, fun k hk kw => ?_⟩
        by_cases ek : k = i
        · rw [ek] at kw
          exact absurd g kw
        · exact b3 k (by omega) kw
    · rcases hI with ⟨e, h⟩ | ⟨b, b1, e, b2, b3⟩
      · rw [e]
        refine br_t (by decide) (nm_r (nI_1 i) (hq (nI i) (Or.inr ⟨i, by omega, rfl, g, fun k hk kw => ?_⟩)))
        by_cases ek : k = i
        · rw [ek]
          exact Int.le_refl _
        · exact absurd (h k (by omega)) kw
      · rw [e, nI_clamp (show b < 2 ^ 31 by omega)]
        refine br_f (nI_pos (by omega)) ⟨pk_in i 640 (by omega), pk_in b 640 (by omega), br_c (fun y => nm_r (nI_1 i) (hq (nI b) (Or.inr ⟨b, by omega, rfl, b2, fun k hk kw => ?_⟩))) (fun y => nm_r (nI_1 i) (hq (nI i) (Or.inr ⟨i, by omega, rfl, g, fun k hk kw => ?_⟩)))⟩
        · by_cases ek : k = i
          · rw [ek]
            exact Int64.le_iff_toInt_le.mp y
          · exact b3 k (by omega) kw
        · by_cases ek : k = i
          · rw [ek]
            exact Int.le_refl _
          · have y' : ¬ (a7 b).toInt ≤ (a7 i).toInt := fun t => y (Int64.le_iff_toInt_le.mpr t)
            have := b3 k (by omega) kw
            omega
/-- started, and the first c plans found, or all -/
def mu_K (p S : Nat → Nat) (N : Nat) (a1 a2 : Nat → Int32) (c : Nat) (u : St2) : Prop := match u with
  | (st, en, fo, pa, fw, wo, fp, pw, pt, b1, b2, a3, a4, a5, a6, a7, a8, a9, a10, a11, a12, a13) => b1 = a1 ∧ b2 = a2 ∧ pw = -1 ∧ st ≠ 0 ∧
    ∃ (nf np : Nat) (fx wx pl : Nat → Nat), fo = nI nf ∧ pa = nI np ∧ np ≤ 1 + 5 * nf ∧ (en ≠ 0 → nf = N) ∧ (c ≤ nf ∨ nf = N) ∧
      mu_I (mu_F a2) (mu_V p) S N (fun _ => False) nf np a3 a4 a5 a6 a7 fx wx pl
/-- not started -/
def mu_Z (a1 a2 : Nat → Int32) (u : St2) : Prop := match u with
  | (st, en, fo, pa, fw, wo, fp, pw, pt, b1, b2, a3, a4, a5, a6, a7, a8, a9, a10, a11, a12, a13) => b1 = a1 ∧ b2 = a2 ∧ pw = -1 ∧ st = 0
theorem mw_36 {post : St2 → Prop} {p S : Nat → Nat} {N nf np c : Nat} {fx wx pl : Nat → Nat}
    (hp : ∀ j, j < 25 → a1 j = nI (p j) ∧ p j ≤ 99) (hB : mu_B a2) (hE : mu_E (mu_F a2) (mu_V p) S N) (hc : c < 2 ^ 31) (hs : st ≠ 0) (hnp : np ≤ 1 + 5 * nf) (hen : en ≠ 0 → nf = N)
    (hI : mu_I (mu_F a2) (mu_V p) S N (fun _ => False) nf np a3 a4 a5 a6 a7 fx wx pl) (H : ∀ u, mu_K p S N a1 a2 c u → post u) :
    ∃ n, wX_findUpTo_36 post (nI c) n 0 st en (nI nf) (nI np) fw wo fp (-1) pt a1 a2 a3 a4 a5 a6 a7 a8 a9 a10 a11 a12 a13 := by
  have hN := hE.1
  refine pk_loop (σ := Int32 × Int32 × Int32 × Int32 × Int32 × Int32 × (Nat → Int64) × (Nat → Int32) × (Nat → Int32) × (Nat → Int32) × (Nat → Int64) × (Nat → Int64) × (Nat → Int64) × (Nat → Int32) × (Nat → Int32) × (Nat → Int64) × (Nat → Int32))
    (fun n i s => wX_findUpTo_36 post (nI c) n (nI i) st s.1 s.2.1 s.2.2.1 s.2.2.2.1 s.2.2.2.2.1 s.2.2.2.2.2.1 (-1) pt a1 a2 s.2.2.2.2.2.2.1 s.2.2.2.2.2.2.2.1 s.2.2.2.2.2.2.2.2.1 s.2.2.2.2.2.2.2.2.2.1 s.2.2.2.2.2.2.2.2.2.2.1 s.2.2.2.2.2.2.2.2.2.2.2.1 s.2.2.2.2.2.2.2.2.2.2.2.2.1 s.2.2.2.2.2.2.2.2.2.2.2.2.2.1 s.2.2.2.2.2.2.2.2.2.2.2.2.2.2.1 s.2.2.2.2.2.2.2.2.2.2.2.2.2.2.2.1 s.2.2.2.2.2.2.2.2.2.2.2.2.2.2.2.2)
    (fun i s => ∃ (nf np : Nat) (fx wx pl : Nat → Nat), s.2.1 = nI nf ∧ s.2.2.1 = nI np ∧ np ≤ 1 + 5 * nf ∧ mu_I (mu_F a2) (mu_V p) S N (fun _ => False) nf np s.2.2.2.2.2.2.1 s.2.2.2.2.2.2.2.1 s.2.2.2.2.2.2.2.2.1 s.2.2.2.2.2.2.2.2.2.1 s.2.2.2.2.2.2.2.2.2.2.1 fx wx pl ∧ ((s.1 = 0 ∧ i ≤ nf) ∨ (s.1 ≠ 0 ∧ nf = N)))
    120 0 (en, nI nf, nI np, fw, wo, fp, a3, a4, a5, a6, a7, a8, a9, a10, a11, a12, a13) (by omega) ⟨nf, np, fx, wx, pl, rfl, rfl, hnp, hI, ?_⟩ ?_ ?_
  · by_cases e : en = 0
    · exact Or.inl ⟨e, by omega⟩
    · exact Or.inr ⟨e, hen e⟩
  · intro n s hI'
    obtain ⟨en', fo', pa', fw', wo', fp', c3, c4, c5, c6, c7, b8, b9, b10, b11, b12, b13⟩ := s
    obtain ⟨nf', np', fx', wx', pl', e1, e2, e3, e4, e5⟩ := hI'
    dsimp only at e1 e2 e4 e5
    have := e4.1
    refine pk_le 120 120 (fun _ => H _ ⟨rfl, rfl, rfl, hs, nf', np', fx', wx', pl', e1, e2, e3, ?_, ?_, e4⟩) (fun q => absurd q (by omega))
    · intro q
      rcases e5 with ⟨e, _⟩ | ⟨_, e⟩
      · exact absurd e q
      · exact e
    · rcases e5 with ⟨_, e⟩ | ⟨_, e⟩
      · omega
      · exact Or.inr e
  · intro n i s hi hI' hq
    obtain ⟨en', fo', pa', fw', wo', fp', c3, c4, c5, c6, c7, b8, b9, b10, b11, b12, b13⟩ := s
    obtain ⟨nf', np', fx', wx', pl', e1, e2, e3, e4, e5⟩ := hI'
    dsimp only at e1 e2 e4 e5
    subst e1 e2
    have hnN := e4.1
    have e6 : en' ≠ 0 → nf' = N := fun q => by
      rcases e5 with ⟨e, _⟩ | ⟨_, e⟩
      · exact absurd e q
      · exact e
    refine pk_le 120 i (fun q => absurd q (by omega)) (fun _ => ?_)
    refine pk_le c nf' (fun q => H _ ⟨rfl, rfl, rfl, hs, nf', np', fx', wx', pl', rfl, rfl, e3, e6, Or.inl q, e4⟩) (fun q => br_c (fun g => ?_) (fun g => H _ ⟨rfl, rfl, rfl, hs, nf', np', fx', wx', pl', rfl, rfl, e3, e6, Or.inr (e6 g), e4⟩))
    dsimp only
    have hi' : i ≤ nf' := by
      rcases e5 with ⟨_, e⟩ | ⟨e, _⟩
      · exact e
      · exact absurd g e
    refine mw_62 (by omega) (fun hno => ?_) (fun b b1 b2 b3 => ?_)
    · unfold wX_findUpTo_125
      refine ⟨rfl, rfl, br_f (by decide) (nm_r (nI_1 i) (hq (1, nI nf', nI np', fw', wo', fp', c3, c4, c5, c6, c7, b8, b9, b10, b11, b12, b13) ⟨nf', np', fx', wx', pl', rfl, rfl, e3, e4, Or.inr ⟨?_, mu_none hE e4 hno⟩⟩))⟩
      show (1 : Int32) ≠ 0
      decide
    · have v7 : ∀ k, k < np' → (c7 k).toInt = (mu_V p (pl' k) : Int) := fun k hk => by
        obtain ⟨_, _, _, _, x1, x2⟩ := e4.2.2.1 k hk
        have := (hE.2.1 _ x1).2
        rw [x2, lN_toInt (by omega)]
      obtain ⟨t1, t2, t3⟩ := mu_take hE e4 b1 b2 (fun k hk kw => by
        have a := b3 k hk kw
        rw [v7 b b1, v7 k hk] at a
        omega)
      have cb := (e4.2.2.1 b b1).2.2.2.2.2
      unfold wX_findUpTo_125
      rw [nI_clamp (show b < 2 ^ 31 by omega), nI_clamp (show nf' < 2 ^ 31 by omega), cb, t2]
      refine ⟨rfl, rfl, br_t rfl ⟨pk_in b 640 (by omega), pk_in nf' 120 (by omega), nm_e (nm_r (nI_1 nf') ⟨pk_in b 640 (by omega), nm_e ?_⟩)⟩⟩
      refine mw_div hp hB hE (by omega) b1 (e4.2.2.2.1 b b1 b2).1 t3 ?_
      intro np2 fw2 wo2 fp2 d4 d5 d6 d7 f8 f9 f10 f11 f12 f13 fx2 wx2 pl2 k1 k2
      exact nm_r (nI_1 i) (hq (0, nI (nf' + 1), nI np2, fw2, wo2, fp2, vp_updL c3 nf' (lN (S nf')), d4, d5, d6, d7, f8, f9, f10, f11, f12, f13) ⟨nf' + 1, np2, fx2, wx2, pl2, rfl, rfl, by omega, k2, Or.inl ⟨rfl, by omega⟩⟩)
end
theorem mw_find {post : St2 → Prop} {p S : Nat → Nat} {N c : Nat} {a1 a2 : Nat → Int32} {u : St2}
    (hp : ∀ j, j < 25 → a1 j = nI (p j) ∧ p j ≤ 99) (hB : mu_B a2) (hE : mu_E (mu_F a2) (mu_V p) S N) (hc : c < 2 ^ 31) (hu : mu_Z a1 a2 u ∨ mu_K p S N a1 a2 0 u)
    (H : ∀ u, mu_K p S N a1 a2 c u → post u) : wpX_findUpTo post u (nI c) := by
  obtain ⟨st, en, fo, pa, fw, wo, fp, pw, pt, b1, b2, a3, a4, a5, a6, a7, a8, a9, a10, a11, a12, a13⟩ := u
  unfold wpX_findUpTo
  dsimp only
  rcases hu with ⟨e1, e2, e3, e4⟩ | ⟨e1, e2, e3, e4, nf, np, fx, wx, pl, e5, e6, e7, e8, e9, e10⟩
  · subst e1 e2 e3 e4
    refine br_t rfl (mw_add (U := fun _ => True) (np := 0) (nf := 0) (w := 0) (m := 0) (P := 0) (fx := fun _ => 0) (wx := fun _ => 0) (pl := fun _ => 0) hp hB hE (by omega) (by omega) (by omega) (by omega) ?_ (fun n _ _ => trivial) ?_)
    · exact ⟨Nat.zero_le _, fun r hr => absurd hr (by omega), fun k hk => absurd hk (by omega), fun k hk => absurd hk (by omega), fun n _ _ => Or.inl trivial, fun k k' n hk => absurd hk (by omega), fun n _ _ r hr => absurd hr (by omega)⟩
    · intro np' c4 c5 c6 c7 b8 b9 b10 b11 b12 b13 fx' wx' pl' k1 k2 k3 k4
      refine mw_36 (nf := 0) hp hB hE hc (show (1 : Int32) ≠ 0 by decide) (by omega) (fun q => absurd rfl q) (mu_Iu k4 (fun n hn => ⟨fun u => u.2 ⟨fun i hi => absurd hi (by omega), Nat.zero_testBit _⟩, fun u => u.elim⟩)) H
  · subst e1 e2 e3 e5 e6
    exact br_f e4 (mw_36 hp hB hE hc e4 e7 e8 e10 H)
end
section
/-! the methods that the law calls -/
def lz_C (p S : Nat → Nat) (N : Nat) (a1 a2 : Nat → Int32) : Prop :=
  (∀ j, j < 25 → a1 j = nI (p j) ∧ p j ≤ 99) ∧ mu_B a2 ∧ mu_E (mu_F a2) (mu_V p) S N
def lz_Y (p S : Nat → Nat) (N : Nat) (a1 a2 : Nat → Int32) (u : St2) : Prop := mu_Z a1 a2 u ∨ mu_K p S N a1 a2 0 u
theorem lz_KY {p S : Nat → Nat} {N c : Nat} {a1 a2 : Nat → Int32} {u : St2} (h : mu_K p S N a1 a2 c u) : lz_Y p S N a1 a2 u := by
  obtain ⟨st, en, fo, pa, fw, wo, fp, pw, pt, b1, b2, a3, a4, a5, a6, a7, a8, a9, a10, a11, a12, a13⟩ := u
  obtain ⟨e1, e2, e3, e4, nf, np, fx, wx, pl, e5, e6, e7, e8, e9, e10⟩ := h
  exact Or.inr ⟨e1, e2, e3, e4, nf, np, fx, wx, pl, e5, e6, e7, e8, Or.inl (Nat.zero_le _), e10⟩
theorem lz_SV {p S : Nat → Nat} {N : Nat} {a1 a2 : Nat → Int32} (hC : lz_C p S N a1 a2) {r : Nat} (hr : r < N) : S r < 2000000 := by
  obtain ⟨n, h1, h2⟩ := hC.2.2.2.2.2.1 r hr
  rw [← h2]
  exact (hC.2.2.2.1 n h1).2
section
variable {p S : Nat → Nat} {N : Nat} {a1 a2 : Nat → Int32} {u : St2}
theorem lz_plans {post : Int32 → St2 → Prop} (hC : lz_C p S N a1 a2) (hY : lz_Y p S N a1 a2 u) (H : ∀ u', lz_Y p S N a1 a2 u' → post (nI N) u') : wpX_plans post u := by
  obtain ⟨st, en, fo, pa, fw, wo, fp, pw, pt, b1, b2, a3, a4, a5, a6, a7, a8, a9, a10, a11, a12, a13⟩ := u
  unfold wpX_plans
  dsimp only
  refine mw_find (c := 120) hC.1 hC.2.1 hC.2.2 (by omega) hY (fun u' hK => ?_)
  have hY' := lz_KY hK
  obtain ⟨st, en, fo, pa, fw, wo, fp, pw, pt, b1, b2, a3, a4, a5, a6, a7, a8, a9, a10, a11, a12, a13⟩ := u'
  obtain ⟨e1, e2, e3, e4, nf, np, fx, wx, pl, e5, e6, e7, e8, e9, e10⟩ := hK
  have h6 := hC.2.2.1
  have h7 := e10.1
  have e : nf = N := by omega
  dsimp only
  rw [e] at e5
  subst e5
  exact H _ hY'
theorem lz_has {post : Int32 → St2 → Prop} {r : Nat} (hC : lz_C p S N a1 a2) (hY : lz_Y p S N a1 a2 u) (hr : r ≤ 119)
    (H1 : r < N → ∀ u', mu_K p S N a1 a2 (r + 1) u' → post 1 u') (H0 : N ≤ r → ∀ u', mu_K p S N a1 a2 (r + 1) u' → post 0 u') : wpX_hasRank post u (nI r) := by
  obtain ⟨st, en, fo, pa, fw, wo, fp, pw, pt, b1, b2, a3, a4, a5, a6, a7, a8, a9, a10, a11, a12, a13⟩ := u
  unfold wpX_hasRank
  dsimp only
  refine br_f (nI_pos (by omega)) (pk_le r 119 (fun _ => ?_) (fun q => absurd q (by omega)))
  rw [nI_1 r]
  refine mw_find hC.1 hC.2.1 hC.2.2 (by omega) hY (fun u' hK => ?_)
  have hK' := hK
  obtain ⟨st, en, fo, pa, fw, wo, fp, pw, pt, b1, b2, a3, a4, a5, a6, a7, a8, a9, a10, a11, a12, a13⟩ := u'
  obtain ⟨e1, e2, e3, e4, nf, np, fx, wx, pl, e5, e6, e7, e8, e9, e10⟩ := hK
  have h6 := hC.2.2.1
  have h7 := e10.1
  subst e5
  exact pk_le nf r (fun q => H0 (by omega) _ hK') (fun q => H1 (by omega) _ hK')
theorem lz_cost {post : Int32 → St2 → Prop} {r : Nat} (hC : lz_C p S N a1 a2) (hY : lz_Y p S N a1 a2 u) (hr : r ≤ 119)
    (H1 : r < N → ∀ u', lz_Y p S N a1 a2 u' → post (nI (S r / 3125)) u') (H0 : N ≤ r → ∀ u', lz_Y p S N a1 a2 u' → post (-1) u') : wpX_cost post u (nI r) := by
  obtain ⟨st, en, fo, pa, fw, wo, fp, pw, pt, b1, b2, a3, a4, a5, a6, a7, a8, a9, a10, a11, a12, a13⟩ := u
  unfold wpX_cost
  dsimp only
  refine lz_has hC hY hr (fun hN u' hK => ?_) (fun hN u' hK => ?_)
  · have hY' := lz_KY hK
    obtain ⟨st, en, fo, pa, fw, wo, fp, pw, pt, b1, b2, a3, a4, a5, a6, a7, a8, a9, a10, a11, a12, a13⟩ := u'
    obtain ⟨e1, e2, e3, e4, nf, np, fx, wx, pl, e5, e6, e7, e8, e9, e10⟩ := hK
    have h7 := e10.1
    have h8 := e10.2.1 r (by omega)
    have h9 := lz_SV hC hN
    dsimp only
    rw [nI_clamp (show r < 2 ^ 31 by omega), h8]
    have e : (lN (S r) / 3125).toInt32 = nI (S r / 3125) := by
      have g : lN (S r) / 3125 = lN (S r / 3125) := pk_lDiv (b := 3125) (by omega) (by omega) (by omega)
      rw [g, lN_i]
    rw [e]
    exact br_f (by decide) ⟨pk_in r 120 (by omega), by decide, H1 hN _ hY'⟩
  · have hY' := lz_KY hK
    obtain ⟨st, en, fo, pa, fw, wo, fp, pw, pt, b1, b2, a3, a4, a5, a6, a7, a8, a9, a10, a11, a12, a13⟩ := u'
    exact br_t rfl (H0 hN _ hY')
theorem lz_rem {v : Nat} (hv : v < 2000000) : lN v - lN v / 3125 * 3125 = lN (v % 3125) := pk_lRem (b := 3125) (by omega) (by omega) (by omega)
theorem lz_plan {post : Int32 → St2 → Prop} {r : Nat} (hC : lz_C p S N a1 a2) (hY : lz_Y p S N a1 a2 u) (hr : r < N)
    (H1 : ∀ u', lz_Y p S N a1 a2 u' → post (nI (S r % 3125)) u') : wpX_plan post u (nI r) := by
  have h6 := hC.2.2.1
  obtain ⟨st, en, fo, pa, fw, wo, fp, pw, pt, b1, b2, a3, a4, a5, a6, a7, a8, a9, a10, a11, a12, a13⟩ := u
  unfold wpX_plan
  dsimp only
  refine lz_has hC hY (by omega) (fun hN u' hK => ?_) (fun hN u' hK => absurd hr (by omega))
  have hY' := lz_KY hK
  obtain ⟨st, en, fo, pa, fw, wo, fp, pw, pt, b1, b2, a3, a4, a5, a6, a7, a8, a9, a10, a11, a12, a13⟩ := u'
  obtain ⟨e1, e2, e3, e4, nf, np, fx, wx, pl, e5, e6, e7, e8, e9, e10⟩ := hK
  have h7 := e10.1
  have h8 := e10.2.1 r (by omega)
  dsimp only
  rw [nI_clamp (show r < 2 ^ 31 by omega), h8, lz_rem (lz_SV hC hN), lN_i]
  exact br_f (by decide) ⟨pk_in r 120 (by omega), by decide, H1 _ hY'⟩
theorem lz_planN {post : Int32 → St2 → Prop} (H1 : post (-1) u) : wpX_plan post u (-1) := by
  obtain ⟨st, en, fo, pa, fw, wo, fp, pw, pt, b1, b2, a3, a4, a5, a6, a7, a8, a9, a10, a11, a12, a13⟩ := u
  unfold wpX_plan
  dsimp only
  unfold wpX_hasRank
  dsimp only
  exact br_t (by decide) (br_t rfl H1)
theorem lz_inR {post : Int32 → Prop} {w : Nat} (hw : w ≤ 4) (H : post 1) : wpX_inRange post () (nI w) := by
  unfold wpX_inRange
  exact br_f (nI_pos (by omega)) (pk_lt 4 w (fun q => absurd q (by omega)) (fun _ => H))
theorem lz_task {post : Int32 → St2 → Prop} {r w : Nat} (hC : lz_C p S N a1 a2) (hY : lz_Y p S N a1 a2 u) (hr : r < N) (hw : w ≤ 4)
    (H1 : ∀ u', lz_Y p S N a1 a2 u' → post (nI (mu_d (S r % 3125) w)) u') : wpX_task post u (nI r) (nI w) := by
  have h6 := hC.2.2.1
  obtain ⟨st, en, fo, pa, fw, wo, fp, pw, pt, b1, b2, a3, a4, a5, a6, a7, a8, a9, a10, a11, a12, a13⟩ := u
  unfold wpX_task
  dsimp only
  refine lz_inR hw (br_f (by decide) (lz_has hC hY (by omega) (fun hN u' hK => ?_) (fun hN u' hK => absurd hr (by omega))))
  have hY' := lz_KY hK
  obtain ⟨st, en, fo, pa, fw, wo, fp, pw, pt, b1, b2, a3, a4, a5, a6, a7, a8, a9, a10, a11, a12, a13⟩ := u'
  obtain ⟨e1, e2, e3, e4, nf, np, fx, wx, pl, e5, e6, e7, e8, e9, e10⟩ := hK
  have h7 := e10.1
  have h8 := e10.2.1 r (by omega)
  dsimp only
  rw [nI_clamp (show r < 2 ^ 31 by omega), h8, lz_rem (lz_SV hC hN), lN_i]
  exact br_f (by decide) ⟨pk_in r 120 (by omega), by decide, nm_e (mw_digit (Nat.mod_lt _ (by omega)) hw (H1 _ hY'))⟩
theorem lz_within {post : Int32 → St2 → Prop} {x : Int32} (hC : lz_C p S N a1 a2) (hY : lz_Y p S N a1 a2 u)
    (H : ∀ (n : Nat) (u' : St2), n ≤ N → (∀ r, r < n → ((S r / 3125 : Nat) : Int) ≤ x.toInt) → (n < N → x.toInt < ((S n / 3125 : Nat) : Int)) → lz_Y p S N a1 a2 u' → post (nI n) u') : wpX_within post u x := by
  have h6 := hC.2.2.1
  obtain ⟨st, en, fo, pa, fw, wo, fp, pw, pt, b1, b2, a3, a4, a5, a6, a7, a8, a9, a10, a11, a12, a13⟩ := u
  unfold wpX_within
  dsimp only
  refine pk_loop (σ := St2) (fun n i s => wX_within_4 post x n (nI i) (nI i) s.1 s.2.1 s.2.2.1 s.2.2.2.1 s.2.2.2.2.1 s.2.2.2.2.2.1 s.2.2.2.2.2.2.1 s.2.2.2.2.2.2.2.1 s.2.2.2.2.2.2.2.2.1 s.2.2.2.2.2.2.2.2.2.1 s.2.2.2.2.2.2.2.2.2.2.1 s.2.2.2.2.2.2.2.2.2.2.2.1 s.2.2.2.2.2.2.2.2.2.2.2.2.1 s.2.2.2.2.2.2.2.2.2.2.2.2.2.1 s.2.2.2.2.2.2.2.2.2.2.2.2.2.2.1 s.2.2.2.2.2.2.2.2.2.2.2.2.2.2.2.1 s.2.2.2.2.2.2.2.2.2.2.2.2.2.2.2.2.1 s.2.2.2.2.2.2.2.2.2.2.2.2.2.2.2.2.2.1 s.2.2.2.2.2.2.2.2.2.2.2.2.2.2.2.2.2.2.1 s.2.2.2.2.2.2.2.2.2.2.2.2.2.2.2.2.2.2.2.1 s.2.2.2.2.2.2.2.2.2.2.2.2.2.2.2.2.2.2.2.2.1 s.2.2.2.2.2.2.2.2.2.2.2.2.2.2.2.2.2.2.2.2.2)
    (fun i s => i ≤ N ∧ (∀ r, r < i → ((S r / 3125 : Nat) : Int) ≤ x.toInt) ∧ lz_Y p S N a1 a2 s)
    120 0 (st, en, fo, pa, fw, wo, fp, pw, pt, b1, b2, a3, a4, a5, a6, a7, a8, a9, a10, a11, a12, a13) (by omega) ⟨Nat.zero_le _, fun r hr => absurd hr (by omega), hY⟩ ?_ ?_
  · intro n s hI
    have := hI.1
    omega
  · intro n i s hi hI hq
    obtain ⟨st, en, fo, pa, fw, wo, fp, pw, pt, b1, b2, a3, a4, a5, a6, a7, a8, a9, a10, a11, a12, a13⟩ := s
    obtain ⟨i1, i2, i3⟩ := hI
    refine pk_le 120 i (fun q => absurd q (by omega)) (fun _ => ?_)
    refine lz_has hC i3 (by omega) (fun hN u' hK => ?_) (fun hN u' hK => ?_)
    · have hY' := lz_KY hK
      obtain ⟨st, en, fo, pa, fw, wo, fp, pw, pt, b1, b2, a3, a4, a5, a6, a7, a8, a9, a10, a11, a12, a13⟩ := u'
      obtain ⟨e1, e2, e3, e4, nf, np, fx, wx, pl, e5, e6, e7, e8, e9, e10⟩ := hK
      have h7 := e10.1
      have h8 := e10.2.1 i (by omega)
      have h9 := lz_SV hC hN
      dsimp only
      have g : lN (S i) / 3125 = lN (S i / 3125) := pk_lDiv (b := 3125) (by omega) (by omega) (by omega)
      have gi : (lN (S i / 3125)).toInt = ((S i / 3125 : Nat) : Int) := lN_toInt (by omega)
      have gx : x.toInt64.toInt = x.toInt := Int32.toInt_toInt64 x
      rw [nI_clamp (show i < 2 ^ 31 by omega), h8, g]
      refine br_f (by decide) ⟨pk_in i 120 (by omega), by decide, br_c (fun y => nm_r (nI_1 i) (nm_r (nI_1 i) (hq (st, en, fo, pa, fw, wo, fp, pw, pt, b1, b2, a3, a4, a5, a6, a7, a8, a9, a10, a11, a12, a13) ⟨by omega, fun r hr => ?_, hY'⟩))) (fun y => H i _ (by omega) i2 (fun _ => ?_) hY')⟩
      · by_cases e : r = i
        · have := Int64.le_iff_toInt_le.mp y
          rw [gi, gx] at this
          rw [e]
          exact this
        · exact i2 r (by omega)
      · have y' : ¬ (lN (S i / 3125)).toInt ≤ x.toInt64.toInt := fun t => y (Int64.le_iff_toInt_le.mpr t)
        rw [gi, gx] at y'
        omega
    · have hY' := lz_KY hK
      obtain ⟨st, en, fo, pa, fw, wo, fp, pw, pt, b1, b2, a3, a4, a5, a6, a7, a8, a9, a10, a11, a12, a13⟩ := u'
      exact br_t rfl (H i _ i1 i2 (fun q => absurd q (by omega)) hY')
theorem lz_rank {post : Int32 → St2 → Prop} {k : Nat} (hk : k < 3125) (hC : lz_C p S N a1 a2) (hY : lz_Y p S N a1 a2 u)
    (H1 : ∀ (r : Nat) (u' : St2), r < N → S r % 3125 = k → lz_Y p S N a1 a2 u' → post (nI r) u') (H0 : (∀ r, r < N → S r % 3125 ≠ k) → ∀ u', lz_Y p S N a1 a2 u' → post (-1) u') : wpX_rank post u (nI k) := by
  have h6 := hC.2.2.1
  obtain ⟨st, en, fo, pa, fw, wo, fp, pw, pt, b1, b2, a3, a4, a5, a6, a7, a8, a9, a10, a11, a12, a13⟩ := u
  unfold wpX_rank
  dsimp only
  refine mw_find (c := 120) hC.1 hC.2.1 hC.2.2 (by omega) hY (fun u' hK => ?_)
  have hY' := lz_KY hK
  obtain ⟨st, en, fo, pa, fw, wo, fp, pw, pt, b1, b2, a3, a4, a5, a6, a7, a8, a9, a10, a11, a12, a13⟩ := u'
  obtain ⟨e1, e2, e3, e4, nf, np, fx, wx, pl, e5, e6, e7, e8, e9, e10⟩ := hK
  have h7 := e10.1
  have e : nf = N := by omega
  subst e
  subst e5
  dsimp only
  refine pk_loop (σ := Unit) (fun n i _ => wX_rank_8 post (nI k) st en (nI nf) pa fw wo fp pw pt b1 b2 a3 a4 a5 a6 a7 a8 a9 a10 a11 a12 a13 n (nI i)) (fun i _ => ∀ r, r < i → S r % 3125 ≠ k) nf 0 () (by omega) (fun r hr => absurd hr (by omega)) ?_ ?_
  · intro n s hI
    exact pk_le nf nf (fun _ => H0 hI _ hY') (fun q => absurd q (by omega))
  · intro n i s hi hI hq
    have h8 := e10.2.1 i hi
    have h9 := lz_SV hC hi
    refine pk_le nf i (fun q => absurd q (by omega)) (fun _ => ⟨pk_in i 120 (by omega), by decide, ?_⟩)
    rw [nI_clamp (show i < 2 ^ 31 by omega), h8, lz_rem h9, nI_l (show k < 2 ^ 31 by omega)]
    refine br_c (fun y => H1 i _ hi ((lN_eq (by omega) (by omega)).mp y) hY') (fun y => nm_r (nI_1 i) (hq () (fun r hr => ?_)))
    by_cases er : r = i
    · rw [er]
      exact fun t => y ((lN_eq (by omega) (by omega)).mpr t)
    · exact hI r (by omega)
theorem lz_cheap {post : Int32 → St2 → Prop} {w t : Nat} (hw : w ≤ 4) (ht : t ≤ 4) (hC : lz_C p S N a1 a2) (hY : lz_Y p S N a1 a2 u)
    (H1 : ∀ (n : Nat) (u' : St2), mu_F a2 n → mu_d n w = t → (∀ n', mu_F a2 n' → mu_d n' w = t → mu_V p n ≤ mu_V p n') → lz_Y p S N a1 a2 u' → post (nI (mu_V p n / 3125)) u')
    (H0 : (∀ n', mu_F a2 n' → mu_d n' w ≠ t) → ∀ u', lz_Y p S N a1 a2 u' → post (-1) u') : wpX_cheapestWith post u (nI w) (nI t) := by
  obtain ⟨st, en, fo, pa, fw, wo, fp, pw, pt, b1, b2, a3, a4, a5, a6, a7, a8, a9, a10, a11, a12, a13⟩ := u
  have hb1 : b1 = a1 := by
    rcases hY with h | h
    · exact h.1
    · exact h.1
  have hb2 : b2 = a2 := by
    rcases hY with h | h
    · exact h.2.1
    · exact h.2.1
  subst hb1 hb2
  have in0 : ∀ n, mu_in 0 0 0 n := fun n => ⟨fun i hi => absurd hi (by omega), Nat.zero_testBit _⟩
  have pin : ∀ n, mu_pin (nI w) (nI t) n ↔ mu_d n w = t := fun n => by
    constructor
    · intro h
      have := h w (by omega) rfl
      exact (nI_eq (by have := mu_d5 n w; omega) (by omega)).mp this
    · intro h w' hw' e
      have := (nI_eq (by omega) (by omega)).mp e
      rw [this, h]
  have hY' : ∀ (fw' wo' fp' pt' : Int32) (b8 b9 : Nat → Int64) (b10 b11 : Nat → Int32) (b12 : Nat → Int64) (b13 : Nat → Int32), lz_Y p S N b1 b2 (st, en, fo, pa, fw', wo', fp', -1, pt', b1, b2, a3, a4, a5, a6, a7, b8, b9, b10, b11, b12, b13) := by
    intro fw' wo' fp' pt' b8 b9 b10 b11 b12 b13
    rcases hY with h | h
    · exact Or.inl ⟨rfl, rfl, rfl, h.2.2.2⟩
    · exact Or.inr ⟨rfl, rfl, rfl, h.2.2.2⟩
  unfold wpX_cheapestWith wpX_setPart
  dsimp only
  refine lz_inR hw (br_f (by decide) (lz_inR ht (br_f (by decide) ?_)))
  refine mw_solve (f := 0) (m := 0) (P := 0) hC.1 hC.2.1 (by omega) (by omega) (by omega) ?_ ?_
  · intro n b8 b9 b10 b11 b12 b13 hF _ hQ hmin
    dsimp only
    have hv := (hC.2.2.2.1 n hF).2
    have g : lN (mu_V p n) < (1000000000 : Int64) := (pk_lLT (b := 1000000000) (by omega) (by omega)).mpr (by omega)
    have e : (lN (mu_V p n) / 3125).toInt32 = nI (mu_V p n / 3125) := by
      have g : lN (mu_V p n) / 3125 = lN (mu_V p n / 3125) := pk_lDiv (b := 3125) (by omega) (by omega) (by omega)
      rw [g, lN_i]
    rw [e]
    exact br_t g ⟨by decide, H1 n _ hF ((pin n).mp hQ) (fun n' h1 h2 => hmin n' h1 (in0 n') ((pin n').mpr h2)) (hY' _ _ _ _ _ _ _ _ _ _)⟩
  · intro v b8 b9 b10 b11 b12 b13 hv hv' hno
    dsimp only
    have g : ¬ lN v < (1000000000 : Int64) := fun y => absurd ((pk_lLT (b := 1000000000) (by omega) (by omega)).mp y) (by omega)
    exact br_f g (H0 (fun n' h1 h2 => hno n' h1 (in0 n') ((pin n').mpr h2)) _ (hY' _ _ _ _ _ _ _ _ _ _))
theorem lz_idx {w t : Nat} : (5 : Int32) * nI w + nI t = nI (5 * w + t) := by
  rw [show (5 : Int32) = nI 5 from rfl, pk_mul, nI_add]
theorem lz_bar {post : Int32 → St2 → Prop} {w t : Nat} (hw : w ≤ 4) (ht : t ≤ 4) (hY : lz_Y p S N a1 a2 u)
    (H : ∀ u', mu_Z a1 (upd a2 (5 * w + t) 1) u' → post 0 u') : wpX_bar post u (nI w) (nI t) := by
  obtain ⟨st, en, fo, pa, fw, wo, fp, pw, pt, b1, b2, a3, a4, a5, a6, a7, a8, a9, a10, a11, a12, a13⟩ := u
  have hb : b1 = a1 ∧ b2 = a2 ∧ pw = -1 := by
    rcases hY with h | h
    · exact ⟨h.1, h.2.1, h.2.2.1⟩
    · exact ⟨h.1, h.2.1, h.2.2.1⟩
  obtain ⟨e1, e2, e3⟩ := hb
  subst e1 e2 e3
  unfold wpX_bar
  dsimp only
  refine lz_inR hw (br_f (by decide) (lz_inR ht (br_f (by decide) ?_)))
  rw [lz_idx, nI_clamp (show 5 * w + t < 2 ^ 31 by omega)]
  exact ⟨pk_in (5 * w + t) 25 (by omega), nm_e (H _ ⟨rfl, rfl, rfl, rfl⟩)⟩
theorem lz_barN {post : Int32 → St2 → Prop} (H : post (-1) u) : wpX_bar post u 0 (-1) := by
  obtain ⟨st, en, fo, pa, fw, wo, fp, pw, pt, b1, b2, a3, a4, a5, a6, a7, a8, a9, a10, a11, a12, a13⟩ := u
  unfold wpX_bar
  dsimp only
  refine lz_inR (w := 0) (by omega) (br_f (by decide) ?_)
  unfold wpX_inRange
  exact br_t (by decide) (br_t rfl H)
theorem lz_price {post : Int32 → St2 → Prop} {w t x : Nat} (hw : w ≤ 4) (ht : t ≤ 4) (hx : x ≤ 99) (hY : lz_Y p S N a1 a2 u)
    (H : ∀ u', mu_Z (upd a1 (5 * w + t) (nI x)) (upd a2 (5 * w + t) 0) u' → post 0 u') : wpX_price post u (nI w) (nI t) (nI x) := by
  obtain ⟨st, en, fo, pa, fw, wo, fp, pw, pt, b1, b2, a3, a4, a5, a6, a7, a8, a9, a10, a11, a12, a13⟩ := u
  have hb : b1 = a1 ∧ b2 = a2 ∧ pw = -1 := by
    rcases hY with h | h
    · exact ⟨h.1, h.2.1, h.2.2.1⟩
    · exact ⟨h.1, h.2.1, h.2.2.1⟩
  obtain ⟨e1, e2, e3⟩ := hb
  subst e1 e2 e3
  unfold wpX_price
  dsimp only
  refine lz_inR hw (br_f (by decide) (lz_inR ht (br_f (by decide) (br_f (nI_pos (by omega)) ?_))))
  rw [lz_idx, nI_clamp (show 5 * w + t < 2 ^ 31 by omega)]
  exact pk_le x 99 (fun _ => ⟨pk_in (5 * w + t) 25 (by omega), nm_e ⟨pk_in (5 * w + t) 25 (by omega), nm_e (H _ ⟨rfl, rfl, rfl, rfl⟩)⟩⟩) (fun q => absurd q (by omega))
theorem lz_priceN {post : Int32 → St2 → Prop} (H : post (-1) u) : wpX_price post u 5 0 1 := by
  obtain ⟨st, en, fo, pa, fw, wo, fp, pw, pt, b1, b2, a3, a4, a5, a6, a7, a8, a9, a10, a11, a12, a13⟩ := u
  unfold wpX_price
  dsimp only
  unfold wpX_inRange
  exact br_f (by decide) (br_t (by decide) (br_t rfl H))
end
end
section
/-! all plans in order; sums and counts over them -/
theorem lz_sort (l : List Nat) (nd : l.Nodup) : ∃ S : Nat → Nat, (∀ r r', r < r' → r' < l.length → S r < S r') ∧ List.Perm ((List.range l.length).map S) l := by
  have P : List.Perm (l.mergeSort (fun a b => decide (a ≤ b))) l := List.mergeSort_perm l _
  have W := List.pairwise_mergeSort (le := fun a b : Nat => decide (a ≤ b)) (fun a b c h1 h2 => by
    simp only [decide_eq_true_eq] at *
    omega) (fun a b => by
    simp only [Bool.or_eq_true, decide_eq_true_eq]
    omega) l
  have D := P.symm.nodup nd
  generalize l.mergeSort (fun a b => decide (a ≤ b)) = s at P W D
  have L := P.length_eq
  refine ⟨fun r => s.getD r 0, ?_, ?_⟩
  · intro r r' h h'
    have a := List.pairwise_iff_getElem.mp W r r' (by omega) (by omega) h
    have b := List.pairwise_iff_getElem.mp D r r' (by omega) (by omega) h
    have e : s.getD r 0 = s[r]'(by omega) := (List.getElem_eq_getD 0).symm
    have e' : s.getD r' 0 = s[r']'(by omega) := (List.getElem_eq_getD 0).symm
    simp only [decide_eq_true_eq] at a
    dsimp only
    rw [e, e']
    exact Nat.lt_of_le_of_ne a b
  · have : (List.range l.length).map (fun r => s.getD r 0) = s := by
      rw [← L]
      refine List.ext_getElem (by simp) (fun i h1 h2 => ?_)
      simp only [List.getElem_map, List.getElem_range]
      exact (List.getElem_eq_getD 0).symm
    rw [this]
    exact P
theorem lz_ex {p : Nat → Nat} {a1 a2 : Nat → Int32} (hp : ∀ j, j < 25 → a1 j = nI (p j) ∧ p j ≤ 99) (hB : mu_B a2) (l : List Nat) (hl : ∀ n, mu_F a2 n ↔ n ∈ l) (nd : l.Nodup) (h6 : l.length ≤ 6) :
    ∃ S, lz_C p S l.length a1 a2 ∧ List.Perm ((List.range l.length).map S) (l.map (mu_V p)) := by
  have hp' : ∀ j, j < 25 → p j ≤ 99 := fun j hj => (hp j hj).2
  have hV : ∀ n, mu_F a2 n → mu_V p n % 3125 = n ∧ mu_V p n < 2000000 := fun n hn => by
    have a := mu_Vb hp' (mu_num n hn.1).2
    exact ⟨a.2.1, a.1⟩
  have nd' : (l.map (mu_V p)).Nodup := by
    refine List.pairwise_map.mpr (List.Pairwise.imp_of_mem (fun {a b} ha hb hne e => ?_) nd)
    have ea := (hV a ((hl a).mpr ha)).1
    have eb := (hV b ((hl b).mpr hb)).1
    rw [e, eb] at ea
    exact hne ea.symm
  obtain ⟨S, h1, h2⟩ := lz_sort _ nd'
  rw [List.length_map] at h1 h2
  refine ⟨S, ⟨hp, hB, h6, hV, h1, fun r hr => ?_, fun n hn => ?_⟩, h2⟩
  · have m : S r ∈ l.map (mu_V p) := (h2.mem_iff).mp (List.mem_map.mpr ⟨r, List.mem_range.mpr hr, rfl⟩)
    obtain ⟨n, hn, e⟩ := List.mem_map.mp m
    exact ⟨n, (hl n).mpr hn, e⟩
  · have m := (h2.mem_iff).mpr (List.mem_map.mpr ⟨n, (hl n).mp hn, rfl⟩)
    obtain ⟨r, hr, e⟩ := List.mem_map.mp m
    exact ⟨r, List.mem_range.mp hr, e⟩
/-- the law's prices -/
def lz_p (a b c d : Nat) : Nat → Nat := hu_u (hu_u (hu_u (hu_u (hu_u (fun _ => 0) 0 a) 6 b) 12 c) 2 d) 24 7
theorem lz_v1 (a b c d : Nat) : mu_V (lz_p a b c d) 194 = 3125 * (a + b + c + 0 + 7) + 194 := rfl
theorem lz_v2 (a b c d : Nat) : mu_V (lz_p a b c d) 294 = 3125 * (a + 0 + 0 + 0 + 7) + 294 := rfl
theorem lz_v3 (a b c d : Nat) : mu_V (lz_p a b c d) 694 = 3125 * (0 + 0 + c + 0 + 7) + 694 := rfl
theorem lz_v4 (a b c d : Nat) : mu_V (lz_p a b c d) 894 = 3125 * (0 + 0 + 0 + 0 + 7) + 894 := rfl
theorem lz_v5 (a b c d : Nat) : mu_V (lz_p a b c d) 1294 = 3125 * (d + 0 + 0 + 0 + 7) + 1294 := rfl
theorem lz_v6 (a b c d : Nat) : mu_V (lz_p a b c d) 1394 = 3125 * (d + b + 0 + 0 + 7) + 1394 := rfl
theorem lz_q1 (a b c d : Nat) : mu_V (lz_p a b c d) 194 / 3125 = a + b + c + 7 := by rw [lz_v1]; omega
theorem lz_q2 (a b c d : Nat) : mu_V (lz_p a b c d) 294 / 3125 = a + 7 := by rw [lz_v2]; omega
theorem lz_q3 (a b c d : Nat) : mu_V (lz_p a b c d) 694 / 3125 = c + 7 := by rw [lz_v3]; omega
theorem lz_q4 (a b c d : Nat) : mu_V (lz_p a b c d) 894 / 3125 = 7 := by rw [lz_v4]
theorem lz_q5 (a b c d : Nat) : mu_V (lz_p a b c d) 1294 / 3125 = d + 7 := by rw [lz_v5]; omega
theorem lz_q6 (a b c d : Nat) : mu_V (lz_p a b c d) 1394 / 3125 = d + b + 7 := by rw [lz_v6]; omega
theorem lz_fold {S : Nat → Nat} {p : Nat → Nat} (h : List.Perm ((List.range 6).map S) (mu_L.map (mu_V p))) (f : Nat → Int) :
    f (S 0) + f (S 1) + f (S 2) + f (S 3) + f (S 4) + f (S 5) = f (mu_V p 194) + f (mu_V p 294) + f (mu_V p 694) + f (mu_V p 894) + f (mu_V p 1294) + f (mu_V p 1394) := by
  have q := hu_psum h f
  have q' : f (S 0) + (f (S 1) + (f (S 2) + (f (S 3) + (f (S 4) + (f (S 5) + 0))))) = f (mu_V p 194) + (f (mu_V p 294) + (f (mu_V p 694) + (f (mu_V p 894) + (f (mu_V p 1294) + (f (mu_V p 1394) + 0))))) := q
  omega
theorem lz_sum6 {S : Nat → Nat} {a b c d : Nat} (h : List.Perm ((List.range 6).map S) (mu_L.map (mu_V (lz_p a b c d)))) :
    S 0 / 3125 + S 1 / 3125 + S 2 / 3125 + S 3 / 3125 + S 4 / 3125 + S 5 / 3125 = (a + b + c + 7) + (a + 7) + (c + 7) + 7 + (d + 7) + (d + b + 7) := by
  have q := lz_fold h (fun v => ((v / 3125 : Nat) : Int))
  rw [lz_q1, lz_q2, lz_q3, lz_q4, lz_q5, lz_q6] at q
  omega
/-- 1 if the cost is within the limit -/
def lz_k (x : Int) (c : Nat) : Nat := if x < (c : Int) then 0 else 1
theorem lz_k0 {x : Int} {c : Nat} (h : x < (c : Int)) : lz_k x c = 0 := if_pos h
theorem lz_k1 {x : Int} {c : Nat} (h : (c : Int) ≤ x) : lz_k x c = 1 := if_neg (by omega)
theorem lz_count {S : Nat → Nat} {n : Nat} {x : Int} (hm : ∀ r r', r < r' → r' < 6 → S r < S r') (n6 : n ≤ 6)
    (h1 : ∀ r, r < n → ((S r / 3125 : Nat) : Int) ≤ x) (h2 : n < 6 → x < ((S n / 3125 : Nat) : Int)) :
    n = lz_k x (S 0 / 3125) + lz_k x (S 1 / 3125) + lz_k x (S 2 / 3125) + lz_k x (S 3 / 3125) + lz_k x (S 4 / 3125) + lz_k x (S 5 / 3125) := by
  have g1 : ∀ r, r < n → lz_k x (S r / 3125) = 1 := fun r hr => lz_k1 (h1 r hr)
  have g0 : ∀ r, n ≤ r → r < 6 → lz_k x (S r / 3125) = 0 := fun r hr r6 => by
    refine lz_k0 ?_
    have a := h2 (by omega)
    by_cases e : r = n
    · rw [e]
      exact a
    · have b := hm n r (by omega) r6
      have c : S n / 3125 ≤ S r / 3125 := Nat.div_le_div_right (by omega)
      omega
  have : n = 0 ∨ n = 1 ∨ n = 2 ∨ n = 3 ∨ n = 4 ∨ n = 5 ∨ n = 6 := by omega
  rcases this with e | e | e | e | e | e | e <;> subst e
  · rw [g0 0 (by omega) (by omega), g0 1 (by omega) (by omega), g0 2 (by omega) (by omega), g0 3 (by omega) (by omega), g0 4 (by omega) (by omega), g0 5 (by omega) (by omega)]
  · rw [g1 0 (by omega), g0 1 (by omega) (by omega), g0 2 (by omega) (by omega), g0 3 (by omega) (by omega), g0 4 (by omega) (by omega), g0 5 (by omega) (by omega)]
  · rw [g1 0 (by omega), g1 1 (by omega), g0 2 (by omega) (by omega), g0 3 (by omega) (by omega), g0 4 (by omega) (by omega), g0 5 (by omega) (by omega)]
  · rw [g1 0 (by omega), g1 1 (by omega), g1 2 (by omega), g0 3 (by omega) (by omega), g0 4 (by omega) (by omega), g0 5 (by omega) (by omega)]
  · rw [g1 0 (by omega), g1 1 (by omega), g1 2 (by omega), g1 3 (by omega), g0 4 (by omega) (by omega), g0 5 (by omega) (by omega)]
  · rw [g1 0 (by omega), g1 1 (by omega), g1 2 (by omega), g1 3 (by omega), g1 4 (by omega), g0 5 (by omega) (by omega)]
  · rw [g1 0 (by omega), g1 1 (by omega), g1 2 (by omega), g1 3 (by omega), g1 4 (by omega), g1 5 (by omega)]
theorem lz_all {S : Nat → Nat} {n a b c d : Nat} {x : Int} (h : List.Perm ((List.range 6).map S) (mu_L.map (mu_V (lz_p a b c d)))) (hm : ∀ r r', r < r' → r' < 6 → S r < S r') (n6 : n ≤ 6)
    (h1 : ∀ r, r < n → ((S r / 3125 : Nat) : Int) ≤ x) (h2 : n < 6 → x < ((S n / 3125 : Nat) : Int)) :
    n = lz_k x (a + b + c + 7) + lz_k x (a + 7) + lz_k x (c + 7) + lz_k x 7 + lz_k x (d + 7) + lz_k x (d + b + 7) := by
  have q := lz_fold h (fun v => ((lz_k x (v / 3125) : Nat) : Int))
  rw [lz_q1, lz_q2, lz_q3, lz_q4, lz_q5, lz_q6] at q
  have e := lz_count hm n6 h1 h2
  omega
def lz_j (x y : Int32) : Int32 := if x < y then 0 else 1
theorem lz_jk {x : Int32} {c : Nat} (hc : c < 2 ^ 31) : lz_j x (nI c) = nI (lz_k x.toInt c) := by
  unfold lz_j lz_k
  by_cases h : x < nI c
  · have h' := Int32.lt_iff_toInt_lt.mp h
    rw [nI_toInt hc] at h'
    rw [if_pos h, if_pos h']
    rfl
  · have h' : ¬ x.toInt < (c : Int) := fun y => h (Int32.lt_iff_toInt_lt.mpr (by rw [nI_toInt hc]; exact y))
    rw [if_neg h, if_neg h']
    rfl
theorem lz_upd {p : Nat → Nat} {a1 : Nat → Int32} (h : ∀ j, j < 25 → a1 j = nI (p j) ∧ p j ≤ 99) (k : Nat) {x : Nat} (hx : x ≤ 99) : ∀ j, j < 25 → upd a1 k (nI x) j = nI (hu_u p k x j) ∧ hu_u p k x j ≤ 99 := by
  intro j hj
  by_cases e : j = k
  · rw [e, pk_us, hu_us]
    exact ⟨rfl, hx⟩
  · rw [pk_un e, hu_un e]
    exact h j hj
/-- the plans with the pair (0, 1) free, or barred -/
theorem lz_F6 {a2 : Nat → Int32} (hB : mu_B a2) (h1 : a2 1 = 0) : ∀ n, mu_F a2 n ↔ n ∈ mu_L := fun n =>
  ⟨fun h => h.1, fun h => ⟨h, by
    have := (mu_dg n h).1
    by_cases e : mu_d n 0 = 1
    · rw [e]
      exact h1
    · exact hB.1 _ (by omega) e⟩⟩
theorem lz_F4d : ∀ n ∈ mu_L, (mu_d n 0 ≠ 1 ↔ n ∈ [194, 294, 1294, 1394]) := by decide +kernel
theorem lz_F4 {a2 : Nat → Int32} (hB : mu_B a2) (h1 : a2 1 ≠ 0) : ∀ n, mu_F a2 n ↔ n ∈ [194, 294, 1294, 1394] := fun n => by
  have sub : n ∈ [194, 294, 1294, 1394] → n ∈ mu_L := fun h => by
    unfold mu_L
    simp only [List.mem_cons, List.not_mem_nil, or_false] at h ⊢
    omega
  constructor
  · intro h
    refine (lz_F4d n h.1).mp (fun e => ?_)
    have := h.2
    rw [e] at this
    exact h1 this
  · intro h
    have hn := sub h
    refine ⟨hn, hB.1 _ ?_ ((lz_F4d n hn).mpr h)⟩
    have := (mu_dg n hn).1
    omega
theorem lz_B1 {a2 : Nat → Int32} (hB : mu_B a2) (x : Int32) : mu_B (upd a2 1 x) := by
  obtain ⟨h1, h2, h3, h4, h5⟩ := hB
  refine ⟨fun j hj e => ?_, ?_, ?_, fun j j1 j2 e => ?_, fun j j1 j2 e => ?_⟩
  · rw [pk_un e]
    exact h1 j hj e
  · rw [pk_un (by omega)]
    exact h2
  · rw [pk_un (by omega)]
    exact h3
  · rw [pk_un (by omega)]
    exact h4 j j1 j2 e
  · rw [pk_un (by omega)]
    exact h5 j j1 j2 e
theorem lz_B0 {a2 : Nat → Int32} (hB : mu_B a2) (k : Nat) (hk : k < 15 ∨ k = 18 ∨ k = 24) : mu_B (upd a2 k 0) := by
  obtain ⟨h1, h2, h3, h4, h5⟩ := hB
  have g : ∀ j, a2 j = 0 → upd a2 k 0 j = 0 := fun j h => by
    by_cases e : j = k
    · rw [e, pk_us]
    · rw [pk_un e]
      exact h
  refine ⟨fun j hj e => g j (h1 j hj e), g _ h2, g _ h3, fun j j1 j2 e => ?_, fun j j1 j2 e => ?_⟩
  · rw [pk_un (by omega)]
    exact h4 j j1 j2 e
  · rw [pk_un (by omega)]
    exact h5 j j1 j2 e
end
section
/-! the law's walk: its tail -/
section
variable {st en fo pa fw wo fp pw pt : Int32} {b1 b2 : Nat → Int32} {a3 : Nat → Int64} {a4 a5 a6 : Nat → Int32} {a7 a8 a9 : Nat → Int64} {a10 a11 : Nat → Int32} {a12 : Nat → Int64} {a13 : Nat → Int32}
variable {post : Int32 → St0 → Prop} {mc ms kc ks : Nat} {a b c d : Nat} {S : Nat → Nat} {a1 a2 : Nat → Int32}
/-- what the law's tail rests on -/
def lz_G (a b c d : Nat) (S : Nat → Nat) (a1 a2 : Nat → Int32) : Prop :=
  a < 50 ∧ b < 50 ∧ c < 50 ∧ d < 50 ∧ lz_C (lz_p a b c d) S 6 a1 a2 ∧ a2 1 = 0 ∧ List.Perm ((List.range 6).map S) (mu_L.map (mu_V (lz_p a b c d)))
theorem lz_rk (hG : lz_G a b c d S a1 a2) {n : Nat} (hn : n ∈ mu_L) : ∃ r, r < 6 ∧ S r % 3125 = n := by
  obtain ⟨_, _, _, _, hC, h1, _⟩ := hG
  have hF := (lz_F6 hC.2.1 h1 n).mpr hn
  obtain ⟨r, hr, e⟩ := hC.2.2.2.2.2.2 n hF
  exact ⟨r, hr, by rw [e]; exact (hC.2.2.2.1 n hF).1⟩
theorem lz_rv (hG : lz_G a b c d S a1 a2) {r : Nat} (hr : r < 6) : S r % 3125 ∈ mu_L ∧ S r = mu_V (lz_p a b c d) (S r % 3125) := by
  obtain ⟨_, _, _, _, hC, h1, _⟩ := hG
  obtain ⟨n, hF, e⟩ := hC.2.2.2.2.2.1 r hr
  have q := (hC.2.2.2.1 n hF).1
  rw [← e, q]
  exact ⟨hF.1, rfl⟩
theorem lz_end (hG : lz_G a b c d S a1 a2) (hY : lz_Y (lz_p a b c d) S 6 a1 a2 (st, en, fo, pa, fw, wo, fp, pw, pt, b1, b2, a3, a4, a5, a6, a7, a8, a9, a10, a11, a12, a13)) (H : post 1 ()) :
    wpX_bar (fun r_1030 u => match u with | (st, en, fo, pa, fw, wo, fp, pw, pt, b1, b2, a3, a4, a5, a6, a7, a8, a9, a10, a11, a12, a13) => (((r_1030 = 0 → (wpX_plans (fun r_1080 u => match u with | (st, en, fo, pa, fw, wo, fp, pw, pt, b1, b2, a3, a4, a5, a6, a7, a8, a9, a10, a11, a12, a13) => (((r_1080 = 4 → (wpX_price (fun r_1130 u => match u with | (st, en, fo, pa, fw, wo, fp, pw, pt, b1, b2, a3, a4, a5, a6, a7, a8, a9, a10, a11, a12, a13) => (((r_1130 = 0 → (wpX_plans (fun r_1180 u => match u with | (st, en, fo, pa, fw, wo, fp, pw, pt, b1, b2, a3, a4, a5, a6, a7, a8, a9, a10, a11, a12, a13) => (((r_1180 = 6 → (wpX_price (fun r_1230 u => match u with | (st, en, fo, pa, fw, wo, fp, pw, pt, b1, b2, a3, a4, a5, a6, a7, a8, a9, a10, a11, a12, a13) => (((r_1230 = (-1) → (wpX_bar (fun r_1280 u => match u with | (st, en, fo, pa, fw, wo, fp, pw, pt, b1, b2, a3, a4, a5, a6, a7, a8, a9, a10, a11, a12, a13) => (((r_1280 = (-1) → (post 1 ())) ∧ (¬ r_1280 = (-1) → (post 0 ()))))) (st, en, fo, pa, fw, wo, fp, pw, pt, b1, b2, a3, a4, a5, a6, a7, a8, a9, a10, a11, a12, a13) 0 (-1))) ∧ (¬ r_1230 = (-1) → (post 0 ()))))) (st, en, fo, pa, fw, wo, fp, pw, pt, b1, b2, a3, a4, a5, a6, a7, a8, a9, a10, a11, a12, a13) 5 0 1)) ∧ (¬ r_1180 = 6 → (post 0 ()))))) (st, en, fo, pa, fw, wo, fp, pw, pt, b1, b2, a3, a4, a5, a6, a7, a8, a9, a10, a11, a12, a13))) ∧ (¬ r_1130 = 0 → (post 0 ()))))) (st, en, fo, pa, fw, wo, fp, pw, pt, b1, b2, a3, a4, a5, a6, a7, a8, a9, a10, a11, a12, a13) 0 1 99)) ∧ (¬ r_1080 = 4 → (post 0 ()))))) (st, en, fo, pa, fw, wo, fp, pw, pt, b1, b2, a3, a4, a5, a6, a7, a8, a9, a10, a11, a12, a13))) ∧ (¬ r_1030 = 0 → (post 0 ()))))) (st, en, fo, pa, fw, wo, fp, pw, pt, b1, b2, a3, a4, a5, a6, a7, a8, a9, a10, a11, a12, a13) 0 1 := by
  obtain ⟨_, _, _, _, hC, h1, _⟩ := hG
  have hB1 : mu_B (upd a2 1 1) := lz_B1 hC.2.1 1
  obtain ⟨S4, hC4, _⟩ := lz_ex hC.1 hB1 [194, 294, 1294, 1394] (lz_F4 hB1 (by rw [pk_us]; decide)) (by decide) (by decide)
  have hp3 := lz_upd hC.1 1 (x := 99) (by omega)
  have hB3 : mu_B (upd (upd a2 1 1) 1 0) := lz_B1 hB1 0
  obtain ⟨S6, hC6, _⟩ := lz_ex hp3 hB3 mu_L (lz_F6 hB3 pk_us) (by decide) (by decide)
  refine lz_bar (w := 0) (t := 1) (by omega) (by omega) hY (fun u' hZ => ?_)
  obtain ⟨st, en, fo, pa, fw, wo, fp, pw, pt, b1, b2, a3, a4, a5, a6, a7, a8, a9, a10, a11, a12, a13⟩ := u'
  refine br_t rfl (lz_plans hC4 (Or.inl hZ) (fun u' hY => ?_))
  obtain ⟨st, en, fo, pa, fw, wo, fp, pw, pt, b1, b2, a3, a4, a5, a6, a7, a8, a9, a10, a11, a12, a13⟩ := u'
  refine br_t rfl (lz_price (w := 0) (t := 1) (x := 99) (by omega) (by omega) (by omega) hY (fun u' hZ => ?_))
  obtain ⟨st, en, fo, pa, fw, wo, fp, pw, pt, b1, b2, a3, a4, a5, a6, a7, a8, a9, a10, a11, a12, a13⟩ := u'
  refine br_t rfl (lz_plans hC6 (Or.inl hZ) (fun u' hY => ?_))
  obtain ⟨st, en, fo, pa, fw, wo, fp, pw, pt, b1, b2, a3, a4, a5, a6, a7, a8, a9, a10, a11, a12, a13⟩ := u'
  exact br_t rfl (lz_priceN (br_t rfl (lz_barN (br_t rfl H))))
theorem lz_477 (hG : lz_G a b c d S a1 a2) (hY : lz_Y (lz_p a b c d) S 6 a1 a2 (st, en, fo, pa, fw, wo, fp, pw, pt, b1, b2, a3, a4, a5, a6, a7, a8, a9, a10, a11, a12, a13)) (H : post 1 ()) :
    wL_lawOf_477 post mc ms (nI (a + b + c + 7)) 7 (nI (a + 7)) (nI (d + 7)) kc ks st en fo pa fw wo fp pw pt b1 b2 a3 a4 a5 a6 a7 a8 a9 a10 a11 a12 a13 := by
  have hG' := hG
  obtain ⟨ha, hb, hc, hd, hC, h1, hP⟩ := hG'
  have F6 := lz_F6 hC.2.1 h1
  have inL : ∀ n ∈ [194, 294, 694, 894, 1294, 1394], n ∈ mu_L := fun n hn => hn
  have v1 := lz_v1 a b c d
  have v2 := lz_v2 a b c d
  have v3 := lz_v3 a b c d
  have v4 := lz_v4 a b c d
  have v5 := lz_v5 a b c d
  have v6 := lz_v6 a b c d
  unfold wL_lawOf_477
  refine lz_cheap (w := 0) (t := 0) (by omega) (by omega) hC hY (fun n u' hF hd0 hmin hY => ?_) (fun hno => absurd rfl (hno 194 ((F6 194).mpr (by decide))))
  have e1 : mu_V (lz_p a b c d) n / 3125 = a + 7 := by
    have m1 := hmin 194 ((F6 194).mpr (by decide)) (by decide)
    have m2 := hmin 294 ((F6 294).mpr (by decide)) (by decide)
    rcases mu_six hF.1 with e | e | e | e | e | e <;> subst e <;> first | exact absurd hd0 (by decide) | omega
  rw [e1]
  obtain ⟨st, en, fo, pa, fw, wo, fp, pw, pt, b1, b2, a3, a4, a5, a6, a7, a8, a9, a10, a11, a12, a13⟩ := u'
  refine br_t rfl (lz_cheap (w := 0) (t := 2) (by omega) (by omega) hC hY (fun n u' hF hd0 hmin hY => ?_) (fun hno => absurd rfl (hno 1294 ((F6 1294).mpr (by decide)))))
  have e2 : mu_V (lz_p a b c d) n / 3125 = d + 7 := by
    have m1 := hmin 1294 ((F6 1294).mpr (by decide)) (by decide)
    have m2 := hmin 1394 ((F6 1394).mpr (by decide)) (by decide)
    rcases mu_six hF.1 with e | e | e | e | e | e <;> subst e <;> first | exact absurd hd0 (by decide) | omega
  rw [e2]
  obtain ⟨st, en, fo, pa, fw, wo, fp, pw, pt, b1, b2, a3, a4, a5, a6, a7, a8, a9, a10, a11, a12, a13⟩ := u'
  refine br_t rfl (lz_cheap (w := 3) (t := 0) (by omega) (by omega) hC hY (fun n u' hF hd0 hmin hY => ?_) (fun hno u' hY => ?_))
  · have := (mu_dg n hF.1).2.2.2.1
    omega
  obtain ⟨st, en, fo, pa, fw, wo, fp, pw, pt, b1, b2, a3, a4, a5, a6, a7, a8, a9, a10, a11, a12, a13⟩ := u'
  refine br_t rfl (lz_cheap (w := 3) (t := 3) (by omega) (by omega) hC hY (fun n u' hF hd0 hmin hY => ?_) (fun hno => absurd rfl (hno 894 ((F6 894).mpr (by decide)))))
  have e3 : mu_V (lz_p a b c d) n / 3125 = 7 := by
    have m1 := hmin 894 ((F6 894).mpr (by decide)) (by decide)
    rcases mu_six hF.1 with e | e | e | e | e | e <;> subst e <;> omega
  rw [e3]
  obtain ⟨st, en, fo, pa, fw, wo, fp, pw, pt, b1, b2, a3, a4, a5, a6, a7, a8, a9, a10, a11, a12, a13⟩ := u'
  refine br_t rfl (lz_rank (k := 194) (by omega) hC hY (fun r u' hr hS hY => ?_) (fun hno => ?_))
  · obtain ⟨st, en, fo, pa, fw, wo, fp, pw, pt, b1, b2, a3, a4, a5, a6, a7, a8, a9, a10, a11, a12, a13⟩ := u'
    refine lz_cost hC hY (by omega) (fun _ u' hY => ?_) (fun q => absurd hr (by omega))
    have e4 : S r / 3125 = a + b + c + 7 := by
      have := (lz_rv hG hr).2
      rw [hS] at this
      rw [this]
      exact lz_q1 a b c d
    rw [e4]
    obtain ⟨st, en, fo, pa, fw, wo, fp, pw, pt, b1, b2, a3, a4, a5, a6, a7, a8, a9, a10, a11, a12, a13⟩ := u'
    refine br_t rfl (lz_rank (k := 0) (by omega) hC hY (fun r u' hr hS hY => ?_) (fun hno u' hY => ?_))
    · have := (lz_rv hG hr).1
      rw [hS] at this
      exact absurd this (by decide)
    obtain ⟨st, en, fo, pa, fw, wo, fp, pw, pt, b1, b2, a3, a4, a5, a6, a7, a8, a9, a10, a11, a12, a13⟩ := u'
    refine br_t rfl (lz_rank (k := 195) (by omega) hC hY (fun r u' hr hS hY => ?_) (fun hno u' hY => ?_))
    · have := (lz_rv hG hr).1
      rw [hS] at this
      exact absurd this (by decide)
    obtain ⟨st, en, fo, pa, fw, wo, fp, pw, pt, b1, b2, a3, a4, a5, a6, a7, a8, a9, a10, a11, a12, a13⟩ := u'
    refine br_t rfl (lz_rank (k := 894) (by omega) hC hY (fun r u' hr hS hY => ?_) (fun hno => ?_))
    · obtain ⟨st, en, fo, pa, fw, wo, fp, pw, pt, b1, b2, a3, a4, a5, a6, a7, a8, a9, a10, a11, a12, a13⟩ := u'
      refine lz_cost hC hY (by omega) (fun _ u' hY => ?_) (fun q => absurd hr (by omega))
      have e5 : S r / 3125 = 7 := by
        have := (lz_rv hG hr).2
        rw [hS] at this
        rw [this]
        exact lz_q4 a b c d
      rw [e5]
      obtain ⟨st, en, fo, pa, fw, wo, fp, pw, pt, b1, b2, a3, a4, a5, a6, a7, a8, a9, a10, a11, a12, a13⟩ := u'
      exact br_t rfl (lz_end hG hY H)
    · obtain ⟨r, hr, e⟩ := lz_rk hG (n := 894) (by decide)
      exact absurd e (hno r hr)
  · obtain ⟨r, hr, e⟩ := lz_rk hG (n := 194) (by decide)
    exact absurd e (hno r hr)
end
end
section
/-! the law's walk: its head -/
def lz_T (x : Int32) (a b c d : Nat) : Int32 := lz_j x (nI (a + b + c + 7)) + lz_j x (nI (a + 7)) + lz_j x (nI (c + 7)) + lz_j x (nI 7) + lz_j x (nI (d + 7)) + lz_j x (nI (d + b + 7))
theorem lz_Tk {x : Int32} {a b c d : Nat} (ha : a < 50) (hb : b < 50) (hc : c < 50) (hd : d < 50) :
    lz_T x a b c d = nI (lz_k x.toInt (a + b + c + 7) + lz_k x.toInt (a + 7) + lz_k x.toInt (c + 7) + lz_k x.toInt 7 + lz_k x.toInt (d + 7) + lz_k x.toInt (d + b + 7)) := by
  unfold lz_T
  rw [lz_jk (by omega), lz_jk (by omega), lz_jk (by omega), lz_jk (by omega), lz_jk (by omega), lz_jk (by omega), nI_add, nI_add, nI_add, nI_add, nI_add]
theorem lz_jp {x y : Int32} (h : x < y) : lz_j x y = 0 := if_pos h
theorem lz_jn {x y : Int32} (h : ¬ x < y) : lz_j x y = 1 := if_neg h
section
variable {st en fo pa fw wo fp pw pt : Int32} {b1 b2 : Nat → Int32} {a3 : Nat → Int64} {a4 a5 a6 : Nat → Int32} {a7 a8 a9 : Nat → Int64} {a10 a11 : Nat → Int32} {a12 : Nat → Int64} {a13 : Nat → Int32}
variable {post : Int32 → St0 → Prop} {mc ms kc ks : Nat} {a b c d : Nat} {S : Nat → Nat} {a1 a2 : Nat → Int32} {x4 : Int32}
theorem lz_461 (hG : lz_G a b c d S a1 a2) (hY : lz_Y (lz_p a b c d) S 6 a1 a2 (st, en, fo, pa, fw, wo, fp, pw, pt, b1, b2, a3, a4, a5, a6, a7, a8, a9, a10, a11, a12, a13)) (H : post 1 ()) :
    wL_lawOf_461 post mc ms (nI (a + b + c + 7)) 7 (nI (d + 7)) (nI (d + b + 7)) (nI (a + 7)) kc ks st en fo pa fw wo fp pw pt b1 b2 a3 a4 a5 a6 a7 a8 a9 a10 a11 a12 a13 := by
  obtain ⟨ha, hb, hc, hd, _⟩ := id hG
  unfold wL_lawOf_461
  refine pk_le (d + b + 7) (d + 7) (fun q => ?_) (fun q => lz_477 hG hY H)
  rw [show d + b + 7 = d + 7 by omega]
  exact lz_477 hG hY H
theorem lz_430 {z0 z1 : Int32} (hG : lz_G a b c d S a1 a2) (hY : lz_Y (lz_p a b c d) S 6 a1 a2 (st, en, fo, pa, fw, wo, fp, pw, pt, b1, b2, a3, a4, a5, a6, a7, a8, a9, a10, a11, a12, a13)) (H : post 1 ()) (hz : z1 + z0 = lz_T x4 a b c d) :
    wL_lawOf_430 post mc ms x4 (nI (a + b + c + 7)) (nI (a + 7)) 7 (nI (d + 7)) (nI (d + b + 7)) z0 z1 kc ks st en fo pa fw wo fp pw pt b1 b2 a3 a4 a5 a6 a7 a8 a9 a10 a11 a12 a13 := by
  obtain ⟨ha, hb, hc, hd, hC, h1, hP⟩ := id hG
  unfold wL_lawOf_430
  refine nm_r (hz.trans (lz_Tk ha hb hc hd)) (lz_within hC hY (fun n u' n6 w1 w2 hY => ?_))
  rw [lz_all hP hC.2.2.2.2.1 n6 w1 w2]
  obtain ⟨st, en, fo, pa, fw, wo, fp, pw, pt, b1, b2, a3, a4, a5, a6, a7, a8, a9, a10, a11, a12, a13⟩ := u'
  refine br_t rfl (pk_le (a + b + c + 7) (a + 7) (fun q => ?_) (fun q => lz_461 hG hY H))
  have e := lz_461 (mc := mc) (ms := ms) (kc := kc) (ks := ks) hG hY H
  rw [show nI (a + 7) = nI (a + b + c + 7) by rw [show a + 7 = a + b + c + 7 by omega]] at e
  exact e
theorem lz_417 {z0 z1 : Int32} (hG : lz_G a b c d S a1 a2) (hY : lz_Y (lz_p a b c d) S 6 a1 a2 (st, en, fo, pa, fw, wo, fp, pw, pt, b1, b2, a3, a4, a5, a6, a7, a8, a9, a10, a11, a12, a13)) (H : post 1 ()) (hz : z1 + z0 + lz_j x4 (nI (d + b + 7)) = lz_T x4 a b c d) :
    wL_lawOf_417 post mc ms x4 (nI (a + b + c + 7)) (nI (a + 7)) 7 (nI (d + 7)) (nI (d + b + 7)) z0 z1 kc ks st en fo pa fw wo fp pw pt b1 b2 a3 a4 a5 a6 a7 a8 a9 a10 a11 a12 a13 := by
  unfold wL_lawOf_417
  exact br_c (fun g => lz_430 hG hY H (by rw [lz_jp g] at hz; exact hz)) (fun g => lz_430 hG hY H (by rw [lz_jn g] at hz; exact hz))
theorem lz_404 {z0 z1 : Int32} (hG : lz_G a b c d S a1 a2) (hY : lz_Y (lz_p a b c d) S 6 a1 a2 (st, en, fo, pa, fw, wo, fp, pw, pt, b1, b2, a3, a4, a5, a6, a7, a8, a9, a10, a11, a12, a13)) (H : post 1 ()) (hz : z1 + z0 + lz_j x4 (nI (d + 7)) + lz_j x4 (nI (d + b + 7)) = lz_T x4 a b c d) :
    wL_lawOf_404 post mc ms x4 (nI (a + b + c + 7)) (nI (a + 7)) 7 (nI (d + 7)) (nI (d + b + 7)) z0 z1 kc ks st en fo pa fw wo fp pw pt b1 b2 a3 a4 a5 a6 a7 a8 a9 a10 a11 a12 a13 := by
  unfold wL_lawOf_404
  exact br_c (fun g => lz_417 hG hY H (by rw [lz_jp g] at hz; exact hz)) (fun g => lz_417 hG hY H (by rw [lz_jn g] at hz; exact hz))
theorem lz_391 {z0 z1 : Int32} (hG : lz_G a b c d S a1 a2) (hY : lz_Y (lz_p a b c d) S 6 a1 a2 (st, en, fo, pa, fw, wo, fp, pw, pt, b1, b2, a3, a4, a5, a6, a7, a8, a9, a10, a11, a12, a13)) (H : post 1 ()) (hz : z1 + z0 + lz_j x4 (nI 7) + lz_j x4 (nI (d + 7)) + lz_j x4 (nI (d + b + 7)) = lz_T x4 a b c d) :
    wL_lawOf_391 post mc ms x4 (nI (a + b + c + 7)) (nI (a + 7)) 7 (nI (d + 7)) (nI (d + b + 7)) z0 z1 kc ks st en fo pa fw wo fp pw pt b1 b2 a3 a4 a5 a6 a7 a8 a9 a10 a11 a12 a13 := by
  unfold wL_lawOf_391
  exact br_c (fun g => lz_404 hG hY H (by rw [lz_jp (show x4 < nI 7 from g)] at hz; exact hz)) (fun g => lz_404 hG hY H (by rw [lz_jn (show ¬ x4 < nI 7 from g)] at hz; exact hz))
theorem lz_378 {z0 z1 : Int32} (hG : lz_G a b c d S a1 a2) (hY : lz_Y (lz_p a b c d) S 6 a1 a2 (st, en, fo, pa, fw, wo, fp, pw, pt, b1, b2, a3, a4, a5, a6, a7, a8, a9, a10, a11, a12, a13)) (H : post 1 ()) (hz : z1 + z0 + lz_j x4 (nI (c + 7)) + lz_j x4 (nI 7) + lz_j x4 (nI (d + 7)) + lz_j x4 (nI (d + b + 7)) = lz_T x4 a b c d) :
    wL_lawOf_378 post mc ms x4 (nI (a + b + c + 7)) (nI (a + 7)) (nI (c + 7)) 7 (nI (d + 7)) (nI (d + b + 7)) z0 z1 kc ks st en fo pa fw wo fp pw pt b1 b2 a3 a4 a5 a6 a7 a8 a9 a10 a11 a12 a13 := by
  unfold wL_lawOf_378
  exact br_c (fun g => lz_391 hG hY H (by rw [lz_jp g] at hz; exact hz)) (fun g => lz_391 hG hY H (by rw [lz_jn g] at hz; exact hz))
theorem lz_366 {z0 : Int32} (hG : lz_G a b c d S a1 a2) (hY : lz_Y (lz_p a b c d) S 6 a1 a2 (st, en, fo, pa, fw, wo, fp, pw, pt, b1, b2, a3, a4, a5, a6, a7, a8, a9, a10, a11, a12, a13)) (H : post 1 ()) (hz : z0 = lz_j x4 (nI (a + b + c + 7))) :
    wL_lawOf_366 post mc ms x4 (nI (a + b + c + 7)) (nI (a + 7)) (nI (c + 7)) 7 (nI (d + 7)) (nI (d + b + 7)) z0 kc ks st en fo pa fw wo fp pw pt b1 b2 a3 a4 a5 a6 a7 a8 a9 a10 a11 a12 a13 := by
  have hz' : z0 + lz_j x4 (nI (a + 7)) + lz_j x4 (nI (c + 7)) + lz_j x4 (nI 7) + lz_j x4 (nI (d + 7)) + lz_j x4 (nI (d + b + 7)) = lz_T x4 a b c d := by
    rw [hz]
    rfl
  unfold wL_lawOf_366
  exact br_c (fun g => lz_378 hG hY H (by rw [lz_jp g] at hz'; exact hz')) (fun g => lz_378 hG hY H (by rw [lz_jn g] at hz'; exact hz'))
def lz_s (S : Nat → Nat) : Nat → Nat
  | 0 => 0
  | n + 1 => lz_s S n + S n / 3125
theorem lz_219 (hG : lz_G a b c d S a1 a2) (hY : lz_Y (lz_p a b c d) S 6 a1 a2 (st, en, fo, pa, fw, wo, fp, pw, pt, b1, b2, a3, a4, a5, a6, a7, a8, a9, a10, a11, a12, a13)) (H : post 1 ()) :
    ∃ n, wL_lawOf_219 post mc ms x4 (nI (a + b + c + 7)) (nI (a + 7)) (nI (c + 7)) 7 (nI (d + 7)) (nI (d + b + 7)) kc ks n 0 (-1) 0 st en fo pa fw wo fp pw pt b1 b2 a3 a4 a5 a6 a7 a8 a9 a10 a11 a12 a13 := by
  obtain ⟨ha, hb, hc, hd, hC, h1, hP⟩ := id hG
  refine pk_loop (σ := Int32 × Int32 × St2) (fun n i s => wL_lawOf_219 post mc ms x4 (nI (a + b + c + 7)) (nI (a + 7)) (nI (c + 7)) 7 (nI (d + 7)) (nI (d + b + 7)) kc ks n s.1 s.2.1 (nI i) s.2.2.1 s.2.2.2.1 s.2.2.2.2.1 s.2.2.2.2.2.1 s.2.2.2.2.2.2.1 s.2.2.2.2.2.2.2.1 s.2.2.2.2.2.2.2.2.1 s.2.2.2.2.2.2.2.2.2.1 s.2.2.2.2.2.2.2.2.2.2.1 s.2.2.2.2.2.2.2.2.2.2.2.1 s.2.2.2.2.2.2.2.2.2.2.2.2.1 s.2.2.2.2.2.2.2.2.2.2.2.2.2.1 s.2.2.2.2.2.2.2.2.2.2.2.2.2.2.1 s.2.2.2.2.2.2.2.2.2.2.2.2.2.2.2.1 s.2.2.2.2.2.2.2.2.2.2.2.2.2.2.2.2.1 s.2.2.2.2.2.2.2.2.2.2.2.2.2.2.2.2.2.1 s.2.2.2.2.2.2.2.2.2.2.2.2.2.2.2.2.2.2.1 s.2.2.2.2.2.2.2.2.2.2.2.2.2.2.2.2.2.2.2.1 s.2.2.2.2.2.2.2.2.2.2.2.2.2.2.2.2.2.2.2.2.1 s.2.2.2.2.2.2.2.2.2.2.2.2.2.2.2.2.2.2.2.2.2.1 s.2.2.2.2.2.2.2.2.2.2.2.2.2.2.2.2.2.2.2.2.2.2.1 s.2.2.2.2.2.2.2.2.2.2.2.2.2.2.2.2.2.2.2.2.2.2.2)
    (fun i s => s.1 = nI (lz_s S i) ∧ (s.2.1 = -1 ∨ ∃ j, i = j + 1 ∧ s.2.1 = nI (S j / 3125)) ∧ lz_Y (lz_p a b c d) S 6 a1 a2 s.2.2)
    6 0 (0, -1, (st, en, fo, pa, fw, wo, fp, pw, pt, b1, b2, a3, a4, a5, a6, a7, a8, a9, a10, a11, a12, a13)) (by omega) ⟨rfl, Or.inl rfl, hY⟩ ?_ ?_
  · intro n s hI
    obtain ⟨x16, x17, st, en, fo, pa, fw, wo, fp, pw, pt, b1, b2, a3, a4, a5, a6, a7, a8, a9, a10, a11, a12, a13⟩ := s
    obtain ⟨i1, i2, i3⟩ := hI
    dsimp only at i1 i2 i3
    refine pk_le 6 6 (fun _ => ?_) (fun q => absurd q (by omega))
    refine lz_plans hC i3 (fun u' hY => ?_)
    obtain ⟨st, en, fo, pa, fw, wo, fp, pw, pt, b1, b2, a3, a4, a5, a6, a7, a8, a9, a10, a11, a12, a13⟩ := u'
    refine br_t rfl (br_t ?_ (lz_cost (r := 6) hC hY (by omega) (fun q => absurd q (by omega)) (fun _ u' hY => ?_)))
    · have e : lz_s S 6 = 0 + S 0 / 3125 + S 1 / 3125 + S 2 / 3125 + S 3 / 3125 + S 4 / 3125 + S 5 / 3125 := rfl
      have e' := lz_sum6 hP
      dsimp only
      rw [i1, show (7 : Int32) = nI 7 from rfl, nI_add, nI_add, nI_add, nI_add, nI_add, e]
      rw [show 0 + S 0 / 3125 + S 1 / 3125 + S 2 / 3125 + S 3 / 3125 + S 4 / 3125 + S 5 / 3125 = a + b + c + 7 + (a + 7) + (c + 7) + 7 + (d + 7) + (d + b + 7) by omega]
    · obtain ⟨st, en, fo, pa, fw, wo, fp, pw, pt, b1, b2, a3, a4, a5, a6, a7, a8, a9, a10, a11, a12, a13⟩ := u'
      exact br_t rfl (lz_planN (br_t rfl (br_c (fun g => lz_366 hG hY H (lz_jp g).symm) (fun g => lz_366 hG hY H (lz_jn g).symm))))
  · intro n i s hi hI hq
    obtain ⟨x16, x17, st, en, fo, pa, fw, wo, fp, pw, pt, b1, b2, a3, a4, a5, a6, a7, a8, a9, a10, a11, a12, a13⟩ := s
    obtain ⟨i1, i2, i3⟩ := hI
    dsimp only at i1 i2 i3
    have hS := lz_SV hC hi
    have hm := (lz_rv hG hi).1
    have hdg := mu_dg _ hm
    refine pk_le 6 i (fun q => absurd q (by omega)) (fun _ => ?_)
    refine lz_plan hC i3 hi (fun u' hY => ?_)
    obtain ⟨st, en, fo, pa, fw, wo, fp, pw, pt, b1, b2, a3, a4, a5, a6, a7, a8, a9, a10, a11, a12, a13⟩ := u'
    refine lz_cost hC hY (by omega) (fun _ u' hY => ?_) (fun q => absurd hi (by omega))
    obtain ⟨st, en, fo, pa, fw, wo, fp, pw, pt, b1, b2, a3, a4, a5, a6, a7, a8, a9, a10, a11, a12, a13⟩ := u'
    have hl : ¬ nI (S i / 3125) < x17 := by
      rcases i2 with e | ⟨j, e1, e2⟩
      · rw [e]
        intro y
        have y' := Int32.lt_iff_toInt_lt.mp y
        rw [nI_toInt (by omega), show (-1 : Int32).toInt = -1 from rfl] at y'
        omega
      · rw [e2]
        have := hC.2.2.2.2.1 j i (by omega) hi
        exact nI_nlt (Nat.div_le_div_right (by omega)) (by omega)
    refine br_f (nI_pos (by omega)) (br_f hl (lz_task (w := 3) hC hY hi (by omega) (fun u' hY => ?_)))
    rw [hdg.2.2.2.1]
    obtain ⟨st, en, fo, pa, fw, wo, fp, pw, pt, b1, b2, a3, a4, a5, a6, a7, a8, a9, a10, a11, a12, a13⟩ := u'
    refine br_t rfl (lz_task (w := 4) hC hY hi (by omega) (fun u' hY => ?_))
    rw [hdg.2.2.2.2]
    obtain ⟨st, en, fo, pa, fw, wo, fp, pw, pt, b1, b2, a3, a4, a5, a6, a7, a8, a9, a10, a11, a12, a13⟩ := u'
    refine br_t rfl (nm_r (show x16 + nI (S i / 3125) = nI (lz_s S (i + 1)) from ?_) (nm_r (nI_1 i) (hq (nI (lz_s S (i + 1)), nI (S i / 3125), (st, en, fo, pa, fw, wo, fp, pw, pt, b1, b2, a3, a4, a5, a6, a7, a8, a9, a10, a11, a12, a13)) ⟨rfl, Or.inr ⟨i, rfl, rfl⟩, hY⟩)))
    rw [i1, nI_add]
    rfl
theorem lz_md (x : Int32) : ∃ a : Nat, a < 50 ∧ (x &&& 255) - (x &&& 255) / 50 * 50 = nI a := by
  obtain ⟨j, hj, e⟩ := pk_andE x (m := 255) 8 (by decide)
  refine ⟨j % 50, Nat.mod_lt _ (by omega), ?_⟩
  rw [e]
  exact pk_rem (d := 50) (by omega) (by omega) (by omega)
theorem lz_12 {x0 x1 x2 x3 : Int32} (hZ : mu_Z (fun _ => 0) (fun _ => 0) (st, en, fo, pa, fw, wo, fp, pw, pt, b1, b2, a3, a4, a5, a6, a7, a8, a9, a10, a11, a12, a13)) (H : post 1 ()) :
    ∃ n, wL_lawOf_12 post mc ms x0 x1 x2 x3 x4 kc ks n 0 st en fo pa fw wo fp pw pt b1 b2 a3 a4 a5 a6 a7 a8 a9 a10 a11 a12 a13 := by
  refine pk_loop (σ := St2) (fun n i s => wL_lawOf_12 post mc ms x0 x1 x2 x3 x4 kc ks n (nI i) s.1 s.2.1 s.2.2.1 s.2.2.2.1 s.2.2.2.2.1 s.2.2.2.2.2.1 s.2.2.2.2.2.2.1 s.2.2.2.2.2.2.2.1 s.2.2.2.2.2.2.2.2.1 s.2.2.2.2.2.2.2.2.2.1 s.2.2.2.2.2.2.2.2.2.2.1 s.2.2.2.2.2.2.2.2.2.2.2.1 s.2.2.2.2.2.2.2.2.2.2.2.2.1 s.2.2.2.2.2.2.2.2.2.2.2.2.2.1 s.2.2.2.2.2.2.2.2.2.2.2.2.2.2.1 s.2.2.2.2.2.2.2.2.2.2.2.2.2.2.2.1 s.2.2.2.2.2.2.2.2.2.2.2.2.2.2.2.2.1 s.2.2.2.2.2.2.2.2.2.2.2.2.2.2.2.2.2.1 s.2.2.2.2.2.2.2.2.2.2.2.2.2.2.2.2.2.2.1 s.2.2.2.2.2.2.2.2.2.2.2.2.2.2.2.2.2.2.2.1 s.2.2.2.2.2.2.2.2.2.2.2.2.2.2.2.2.2.2.2.2.1 s.2.2.2.2.2.2.2.2.2.2.2.2.2.2.2.2.2.2.2.2.2)
    (fun i s => ∃ a2 : Nat → Int32, mu_Z (fun _ => 0) a2 s ∧ (∀ j, j < 15 → a2 j = 0) ∧ a2 18 = 0 ∧ a2 24 = 0 ∧ (∀ k, k < i → k ≠ 3 → a2 (15 + k) ≠ 0) ∧ (∀ k, k < i → k ≠ 4 → a2 (20 + k) ≠ 0))
    5 0 (st, en, fo, pa, fw, wo, fp, pw, pt, b1, b2, a3, a4, a5, a6, a7, a8, a9, a10, a11, a12, a13) (by omega) ⟨fun _ => 0, hZ, fun _ _ => rfl, rfl, rfl, fun k hk => absurd hk (by omega), fun k hk => absurd hk (by omega)⟩ ?_ ?_
  · intro n s hI
    obtain ⟨st, en, fo, pa, fw, wo, fp, pw, pt, b1, b2, a3, a4, a5, a6, a7, a8, a9, a10, a11, a12, a13⟩ := s
    obtain ⟨a2, hZ, q1, q2, q3, q4, q5⟩ := hI
    obtain ⟨a, ha, ea⟩ := lz_md x0
    obtain ⟨b, hb, eb⟩ := lz_md x1
    obtain ⟨c, hc, ec⟩ := lz_md x2
    obtain ⟨d, hd, ed⟩ := lz_md x3
    have hB : mu_B a2 := by
      refine ⟨fun j hj _ => q1 j hj, q2, q3, fun j j1 j2 e => ?_, fun j j1 j2 e => ?_⟩
      · have := q4 (j - 15) (by omega) (by omega)
        rw [show 15 + (j - 15) = j by omega] at this
        exact this
      · have := q5 (j - 20) (by omega) (by omega)
        rw [show 20 + (j - 20) = j by omega] at this
        exact this
    have hp0 : ∀ j, j < 25 → (fun _ : Nat => (0 : Int32)) j = nI ((fun _ : Nat => 0) j) ∧ (fun _ : Nat => 0) j ≤ 99 := fun j hj => ⟨rfl, Nat.zero_le _⟩
    have hp := lz_upd (lz_upd (lz_upd (lz_upd (lz_upd hp0 (5 * 0 + 0) (x := a) (by omega)) (5 * 1 + 1) (x := b) (by omega)) (5 * 2 + 2) (x := c) (by omega)) (5 * 0 + 2) (x := d) (by omega)) (5 * 4 + 4) (x := 7) (by omega)
    have hB' := lz_B0 (lz_B0 (lz_B0 (lz_B0 (lz_B0 hB (5 * 0 + 0) (by omega)) (5 * 1 + 1) (by omega)) (5 * 2 + 2) (by omega)) (5 * 0 + 2) (by omega)) (5 * 4 + 4) (by omega)
    have h1 : upd (upd (upd (upd (upd a2 (5 * 0 + 0) 0) (5 * 1 + 1) 0) (5 * 2 + 2) 0) (5 * 0 + 2) 0) (5 * 4 + 4) 0 1 = 0 := by
      rw [pk_un (by omega), pk_un (by omega), pk_un (by omega), pk_un (by omega), pk_un (by omega)]
      exact q1 1 (by omega)
    obtain ⟨S, hC, hP⟩ := lz_ex (p := lz_p a b c d) hp hB' mu_L (lz_F6 hB' h1) (by decide) (by decide)
    have hG : lz_G a b c d S _ _ := ⟨ha, hb, hc, hd, hC, h1, hP⟩
    refine pk_le 5 5 (fun _ => ?_) (fun q => absurd q (by omega))
    refine ⟨by decide, nm_r ea ⟨by decide, nm_r eb ⟨by decide, nm_r ec ⟨by decide, nm_r ed ?_⟩⟩⟩⟩
    refine lz_price (p := fun _ => 0) (S := fun _ => 0) (N := 0) (w := 0) (t := 0) (x := a) (by omega) (by omega) (by omega) (Or.inl hZ) (fun u' hZ => ?_)
    obtain ⟨st, en, fo, pa, fw, wo, fp, pw, pt, b1, b2, a3, a4, a5, a6, a7, a8, a9, a10, a11, a12, a13⟩ := u'
    refine br_t rfl (lz_price (p := fun _ => 0) (S := fun _ => 0) (N := 0) (w := 1) (t := 1) (x := b) (by omega) (by omega) (by omega) (Or.inl hZ) (fun u' hZ => ?_))
    obtain ⟨st, en, fo, pa, fw, wo, fp, pw, pt, b1, b2, a3, a4, a5, a6, a7, a8, a9, a10, a11, a12, a13⟩ := u'
    refine br_t rfl (lz_price (p := fun _ => 0) (S := fun _ => 0) (N := 0) (w := 2) (t := 2) (x := c) (by omega) (by omega) (by omega) (Or.inl hZ) (fun u' hZ => ?_))
    obtain ⟨st, en, fo, pa, fw, wo, fp, pw, pt, b1, b2, a3, a4, a5, a6, a7, a8, a9, a10, a11, a12, a13⟩ := u'
    refine br_t rfl (lz_price (p := fun _ => 0) (S := fun _ => 0) (N := 0) (w := 0) (t := 2) (x := d) (by omega) (by omega) (by omega) (Or.inl hZ) (fun u' hZ => ?_))
    obtain ⟨st, en, fo, pa, fw, wo, fp, pw, pt, b1, b2, a3, a4, a5, a6, a7, a8, a9, a10, a11, a12, a13⟩ := u'
    refine br_t rfl (lz_price (p := fun _ => 0) (S := fun _ => 0) (N := 0) (w := 4) (t := 4) (x := 7) (by omega) (by omega) (by omega) (Or.inl hZ) (fun u' hZ => ?_))
    obtain ⟨st, en, fo, pa, fw, wo, fp, pw, pt, b1, b2, a3, a4, a5, a6, a7, a8, a9, a10, a11, a12, a13⟩ := u'
    have f1 : nI a + nI b + nI c + 7 = nI (a + b + c + 7) := by
      rw [show (7 : Int32) = nI 7 from rfl, nI_add, nI_add, nI_add]
    have f2 : ∀ k, nI k + 7 = nI (k + 7) := fun k => by
      rw [show (7 : Int32) = nI 7 from rfl, nI_add]
    have f3 : nI d + nI b + 7 = nI (d + b + 7) := by
      rw [show (7 : Int32) = nI 7 from rfl, nI_add, nI_add]
    exact br_t rfl (nm_r f1 (nm_r (f2 a) (nm_r (f2 c) (nm_r (f2 d) (nm_r f3 (lz_219 hG (Or.inl hZ) H))))))
  · intro n i s hi hI hq
    obtain ⟨st, en, fo, pa, fw, wo, fp, pw, pt, b1, b2, a3, a4, a5, a6, a7, a8, a9, a10, a11, a12, a13⟩ := s
    obtain ⟨a2, hZ, q1, q2, q3, q4, q5⟩ := hI
    have G : ∀ (a2 : Nat → Int32) (st en fo pa fw wo fp pw pt : Int32) (b1 b2 : Nat → Int32) (a3 : Nat → Int64) (a4 a5 a6 : Nat → Int32) (a7 a8 a9 : Nat → Int64) (a10 a11 : Nat → Int32) (a12 : Nat → Int64) (a13 : Nat → Int32),
        mu_Z (fun _ => 0) a2 (st, en, fo, pa, fw, wo, fp, pw, pt, b1, b2, a3, a4, a5, a6, a7, a8, a9, a10, a11, a12, a13) → (∀ j, j < 15 → a2 j = 0) → a2 18 = 0 → a2 24 = 0 → (∀ k, k < i + 1 → k ≠ 3 → a2 (15 + k) ≠ 0) → (∀ k, k < i → k ≠ 4 → a2 (20 + k) ≠ 0) →
        wL_lawOf_35 post mc ms (wL_lawOf_12 post mc ms x0 x1 x2 x3 x4 kc ks n) x0 x1 x2 x3 x4 (nI i) kc ks st en fo pa fw wo fp pw pt b1 b2 a3 a4 a5 a6 a7 a8 a9 a10 a11 a12 a13 := by
      intro a2 st en fo pa fw wo fp pw pt b1 b2 a3 a4 a5 a6 a7 a8 a9 a10 a11 a12 a13 hZ q1 q2 q3 q4 q5
      unfold wL_lawOf_35
      refine pk_eq i 4 (fun e => nm_r (nI_1 i) (hq (st, en, fo, pa, fw, wo, fp, pw, pt, b1, b2, a3, a4, a5, a6, a7, a8, a9, a10, a11, a12, a13) ⟨a2, hZ, q1, q2, q3, q4, fun k hk k4 => q5 k (by omega) k4⟩)) (fun e => lz_bar (p := fun _ => 0) (S := fun _ => 0) (N := 0) (w := 4) (t := i) (by omega) (by omega) (Or.inl hZ) (fun u' hZ => ?_))
      obtain ⟨st, en, fo, pa, fw, wo, fp, pw, pt, b1, b2, a3, a4, a5, a6, a7, a8, a9, a10, a11, a12, a13⟩ := u'
      refine br_t rfl (nm_r (nI_1 i) (hq (st, en, fo, pa, fw, wo, fp, pw, pt, b1, b2, a3, a4, a5, a6, a7, a8, a9, a10, a11, a12, a13) ⟨_, hZ, fun j hj => ?_, ?_, ?_, fun k hk k3 => ?_, fun k hk k4 => ?_⟩))
      · rw [pk_un (by omega)]
        exact q1 j hj
      · rw [pk_un (by omega)]
        exact q2
      · rw [pk_un (by omega)]
        exact q3
      · rw [pk_un (by omega)]
        exact q4 k hk k3
      · by_cases ek : k = i
        · rw [ek, show 20 + i = 5 * 4 + i by omega, pk_us]
          decide
        · rw [pk_un (by omega)]
          exact q5 k (by omega) k4
    refine pk_le 5 i (fun q => absurd q (by omega)) (fun _ => ?_)
    refine pk_eq i 3 (fun e => G a2 _ _ _ _ _ _ _ _ _ _ _ _ _ _ _ _ _ _ _ _ _ _ hZ q1 q2 q3 (fun k hk k3 => q4 k (by omega) k3) q5) (fun e => lz_bar (p := fun _ => 0) (S := fun _ => 0) (N := 0) (w := 3) (t := i) (by omega) (by omega) (Or.inl hZ) (fun u' hZ => ?_))
    obtain ⟨st, en, fo, pa, fw, wo, fp, pw, pt, b1, b2, a3, a4, a5, a6, a7, a8, a9, a10, a11, a12, a13⟩ := u'
    refine br_t rfl (G _ _ _ _ _ _ _ _ _ _ _ _ _ _ _ _ _ _ _ _ _ _ _ hZ (fun j hj => ?_) ?_ ?_ (fun k hk k3 => ?_) (fun k hk k4 => ?_))
    · rw [pk_un (by omega)]
      exact q1 j hj
    · rw [pk_un (by omega)]
      exact q2
    · rw [pk_un (by omega)]
      exact q3
    · by_cases ek : k = i
      · rw [ek, show 15 + i = 5 * 3 + i by omega, pk_us]
        decide
      · rw [pk_un (by omega)]
        exact q4 k (by omega) k3
    · rw [pk_un (by omega)]
      exact q5 k hk k4
end
end
section
theorem lz_cell {post : Int32 → Prop} {L : Nat} {xs : Nat → Int32} (hL : L ≤ 5) (k : Nat) (hk : k < 5) (H : ∀ x, post x) : wpL_cellAt post L xs () (nI k) := by
  unfold wpL_cellAt
  exact pk_le L k (fun _ => H 0) (fun q => ⟨pk_in k L q, H _⟩)
theorem i_vc (xs : Nat → Int32) (L : Nat) (hL : L ≤ 5) : wpL_law (fun r => r = 1) L xs := by
  unfold wpL_law
  refine lz_cell hL 0 (by omega) (fun x0 => lz_cell hL 1 (by omega) (fun x1 => lz_cell hL 2 (by omega) (fun x2 => lz_cell hL 3 (by omega) (fun x3 => lz_cell hL 4 (by omega) (fun x4 => ?_)))))
  refine ⟨1560, 24960, by omega, by omega, ?_⟩
  unfold wpL_lawOf
  refine ⟨by omega, by omega, 13, 2766, by omega, by omega, ?_⟩
  unfold wpX_init
  dsimp only
  refine ⟨by omega, by omega, by omega, by omega, by omega, by omega, by omega, by omega, by omega, by omega, by omega, by omega, by omega, by omega, by omega, by omega, by omega, by omega, by omega, by omega, by omega, by omega, by omega, by omega, by omega, by omega, ?_⟩
  exact lz_12 ⟨rfl, rfl, rfl, rfl⟩ rfl
end
