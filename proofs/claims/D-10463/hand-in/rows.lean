section
/-! ===== the pure law: splits of points, four-point values, paths ===== -/
/-- the four-point value of a, b on one side and x, y on the other -/
def zt_q (M : Nat → Nat → Nat) (a b x y : Nat) : Int := (M a x : Int) + (M b y : Int) - (M a b : Int) - (M x y : Int)
/-- distances of the first c points -/
def zt_D (c : Nat) (M : Nat → Nat → Nat) : Prop := ∀ i j, i < c → j < c → M i j ≤ 60 ∧ M i j = M j i ∧ M i i = 0
/-- each four-point value of the split s of the first n points is at least r -/
def zt_ge (M : Nat → Nat → Nat) (s n : Nat) (r : Int) : Prop := ∀ a b x y, a < n → b < n → x < n → y < n → s.testBit a = true → s.testBit b = true → s.testBit x = false → s.testBit y = false → r ≤ zt_q M a b x y
/-- r is the index of the split s of the first n points -/
def zt_ix (M : Nat → Nat → Nat) (s n : Nat) (r : Int) : Prop := r ≤ 1000 ∧ zt_ge M s n r ∧ (r = 1000 ∨ ∃ a b x y, a < n ∧ b < n ∧ x < n ∧ y < n ∧ s.testBit a = true ∧ s.testBit b = true ∧ s.testBit x = false ∧ s.testBit y = false ∧ r = zt_q M a b x y)
/-- s is an edge of the first n points, its index w -/
def zt_ok (M : Nat → Nat → Nat) (n s w : Nat) : Prop := s.testBit 0 = true ∧ s < 2 ^ n ∧ s ≠ 2 ^ n - 1 ∧ 0 < w ∧ zt_ix M s n (w : Int)
theorem zt_ix_uniq {M : Nat → Nat → Nat} {s n : Nat} {r r' : Int} (h : zt_ix M s n r) (h' : zt_ix M s n r') : r = r' := by
  have key : ∀ r r' : Int, zt_ix M s n r → zt_ix M s n r' → r ≤ r' := by
    intro r r' h h'
    rcases h'.2.2 with e | ⟨a, b, x, y, ha, hb, hx, hy, ta, tb, tx, ty, e⟩
    · rw [e]
      exact h.1
    · rw [e]
      exact h.2.1 a b x y ha hb hx hy ta tb tx ty
  exact Int.le_antisymm (key r r' h h') (key r' r h' h)
theorem zt_ge_le {M : Nat → Nat → Nat} {s n : Nat} {r r' : Int} (h : zt_ge M s n r) (hr : r' ≤ r) : zt_ge M s n r' :=
  fun a b x y ha hb hx hy ta tb tx ty => Int.le_trans hr (h a b x y ha hb hx hy ta tb tx ty)
theorem zt_ok_ge {M : Nat → Nat → Nat} {s n w : Nat} (h : zt_ok M n s w) : zt_ge M s n 1 :=
  zt_ge_le h.2.2.2.2.2.1 (by have := h.2.2.2.1; omega)
theorem zt_ok_w {M : Nat → Nat → Nat} {s n w : Nat} (h : zt_ok M n s w) : w ≤ 1000 := by
  have := h.2.2.2.2.1
  omega
/-- two edges that cross are not both positive -/
theorem zt_cross {M : Nat → Nat → Nat} {m A B p q e : Nat} (hA : zt_ge M A m 1) (hB : zt_ge M B m 1) (h0 : 0 < m) (A0 : A.testBit 0 = true) (B0 : B.testBit 0 = true)
    (hp : p < m) (hq : q < m) (he : e < m) (Ap : A.testBit p = true) (Bp : B.testBit p = false) (Aq : A.testBit q = false) (Bq : B.testBit q = true) (Ae : A.testBit e = false) (Be : B.testBit e = false) : False := by
  have h1 := hA 0 p q e h0 hp hq he A0 Ap Aq Ae
  have h2 := hB 0 q p e h0 hq hp he B0 Bq Bp Be
  unfold zt_q at h1 h2
  omega
theorem zt_hi {s n i : Nat} (h : s < 2 ^ n) (hi : n ≤ i) : s.testBit i = false :=
  Nat.testBit_lt_two_pow (Nat.lt_of_lt_of_le h (Nat.pow_le_pow_right (by decide) hi))
theorem zt_out {s n : Nat} (h : s < 2 ^ n) (h2 : s ≠ 2 ^ n - 1) : ∃ q, q < n ∧ s.testBit q = false := by
  apply Classical.byContradiction
  intro hc
  apply h2
  apply Nat.eq_of_testBit_eq
  intro i
  rw [Nat.testBit_two_pow_sub_one]
  rcases Nat.lt_or_ge i n with hi | hi
  · rw [decide_eq_true hi]
    cases hb : s.testBit i
    · exact absurd ⟨i, hi, hb⟩ hc
    · rfl
  · rw [decide_eq_false (by omega)]
    exact zt_hi h hi
theorem zt_ext {s t n : Nat} (hs : s < 2 ^ n) (ht : t < 2 ^ n) (h : ∀ i, i < n → s.testBit i = t.testBit i) : s = t := by
  apply Nat.eq_of_testBit_eq
  intro i
  rcases Nat.lt_or_ge i n with hi | hi
  · exact h i hi
  · rw [zt_hi hs hi, zt_hi ht hi]
theorem zt_orb (s n i : Nat) : (s ||| 2 ^ n).testBit i = (s.testBit i || decide (n = i)) := by
  rw [Nat.testBit_or, Nat.testBit_two_pow]
theorem zt_or_n (s n : Nat) : (s ||| 2 ^ n).testBit n = true := by
  rw [zt_orb, decide_eq_true rfl, Bool.or_true]
theorem zt_or_lo {s n i : Nat} (h : i < n) : (s ||| 2 ^ n).testBit i = s.testBit i := by
  rw [zt_orb, decide_eq_false (by omega), Bool.or_false]
theorem zt_or_lt {s n : Nat} (h : s < 2 ^ n) : s ||| 2 ^ n < 2 ^ (n + 1) :=
  Nat.or_lt_two_pow (Nat.lt_of_lt_of_le h (Nat.pow_le_pow_right (by decide) (by omega))) (Nat.pow_lt_pow_right (by decide) (by omega))
/-- an edge with both ways on, and another one that reaches out of it -/
theorem zt_dbl1 {M : Nat → Nat → Nat} {n A B p q : Nat} (h0 : 0 < n) (hA : zt_ge M A (n + 1) 1) (hB : zt_ge M B (n + 1) 1) (hB' : zt_ge M (B ||| 2 ^ n) (n + 1) 1)
    (A0 : A.testBit 0 = true) (B0 : B.testBit 0 = true) (Al : A < 2 ^ n) (Bl : B < 2 ^ n) (hp : p < n) (Ap : A.testBit p = true) (Bp : B.testBit p = false) (hq : q < n) (Aq : A.testBit q = false) : False := by
  cases Bq : B.testBit q
  · exact zt_cross hA hB' (by omega) A0 (by rw [zt_or_lo h0]; exact B0) (show p < n + 1 by omega) (show n < n + 1 by omega) (show q < n + 1 by omega) Ap (by rw [zt_or_lo hp]; exact Bp) (zt_hi Al (Nat.le_refl n)) (zt_or_n B n) Aq (by rw [zt_or_lo hq]; exact Bq)
  · exact zt_cross hA hB (by omega) A0 B0 (show p < n + 1 by omega) (show q < n + 1 by omega) (show n < n + 1 by omega) Ap Bp Aq Bq (zt_hi Al (Nat.le_refl n)) (zt_hi Bl (Nat.le_refl n))
/-- at most one edge goes on both ways -/
theorem zt_dbl {M : Nat → Nat → Nat} {n A B : Nat} (h0 : 0 < n) (hA : zt_ge M A (n + 1) 1) (hA' : zt_ge M (A ||| 2 ^ n) (n + 1) 1) (hB : zt_ge M B (n + 1) 1) (hB' : zt_ge M (B ||| 2 ^ n) (n + 1) 1)
    (A0 : A.testBit 0 = true) (B0 : B.testBit 0 = true) (Al : A < 2 ^ n) (Bl : B < 2 ^ n) (An : A ≠ 2 ^ n - 1) (Bn : B ≠ 2 ^ n - 1) (hne : A ≠ B) : False := by
  apply hne
  apply zt_ext Al Bl
  intro p hp
  obtain ⟨q, hq, Aq⟩ := zt_out Al An
  obtain ⟨q', hq', Bq⟩ := zt_out Bl Bn
  cases Ap : A.testBit p <;> cases Bp : B.testBit p
  · rfl
  · exact (zt_dbl1 h0 hB hA hA' B0 A0 Bl Al hp Bp Ap hq' Bq).elim
  · exact (zt_dbl1 h0 hA hB hB' A0 B0 Al Bl hp Ap Bp hq Aq).elim
  · rfl
/-! sums -/
def zt_sum (g : Nat → Nat) : Nat → Nat
  | 0 => 0
  | n + 1 => zt_sum g n + g n
theorem zt_sum_le {g h : Nat → Nat} {n : Nat} (H : ∀ k, k < n → g k ≤ h k) : zt_sum g n ≤ zt_sum h n := by
  induction n with
  | zero => exact Nat.le_refl 0
  | succ n ih => exact Nat.add_le_add (ih (fun k hk => H k (by omega))) (H n (by omega))
theorem zt_sum_0 (n : Nat) : zt_sum (fun _ => 0) n = 0 := by
  induction n with
  | zero => rfl
  | succ n ih => exact ih
theorem zt_sum_add (g h : Nat → Nat) (n : Nat) : zt_sum (fun k => g k + h k) n = zt_sum g n + zt_sum h n := by
  induction n with
  | zero => rfl
  | succ n ih =>
    show zt_sum (fun k => g k + h k) n + (g n + h n) = zt_sum g n + g n + (zt_sum h n + h n)
    rw [ih]
    omega
theorem zt_sum_swap (g : Nat → Nat → Nat) (f N : Nat) : zt_sum (fun k => zt_sum (fun t => g k t) N) f = zt_sum (fun t => zt_sum (fun k => g k t) f) N := by
  induction f with
  | zero => exact (zt_sum_0 N).symm
  | succ f ih =>
    show zt_sum (fun k => zt_sum (fun t => g k t) N) f + zt_sum (fun t => g f t) N = zt_sum (fun t => zt_sum (fun k => g k t) f + g f t) N
    rw [ih, zt_sum_add]
theorem zt_sum_c {g : Nat → Nat} {n c : Nat} (H : ∀ k, k < n → g k ≤ c) : zt_sum g n ≤ c * n := by
  induction n with
  | zero => exact Nat.le_refl 0
  | succ n ih =>
    have h1 := ih (fun k hk => H k (by omega))
    have h2 := H n (by omega)
    show zt_sum g n + g n ≤ c * (n + 1)
    rw [Nat.mul_succ]
    omega
theorem zt_none {P : Nat → Prop} {f : Nat} (d : Nat → Nat) (hd : ∀ k, k < f → ¬ P k → d k = 0) (h : ∀ k, k < f → ¬ P k) : zt_sum d f = 0 := by
  induction f with
  | zero => rfl
  | succ f ih =>
    show zt_sum d f + d f = 0
    rw [ih (fun k hk => hd k (by omega)) (fun k hk => h k (by omega)), hd f (by omega) (h f (by omega))]
theorem zt_one {P : Nat → Prop} {f : Nat} (d : Nat → Nat) (hd : ∀ k, k < f → ¬ P k → d k = 0) (h1 : ∀ k, k < f → d k ≤ 1) (h : ∀ k k', k < f → k' < f → P k → P k' → k = k') : zt_sum d f ≤ 1 := by
  induction f with
  | zero => exact Nat.zero_le 1
  | succ f ih =>
    show zt_sum d f + d f ≤ 1
    by_cases hp : P f
    · rw [zt_none (P := P) d (fun k hk => hd k (by omega)) (fun k hk z => absurd (h k f (by omega) (by omega) z hp) (by omega))]
      have := h1 f (by omega)
      omega
    · rw [hd f (by omega) hp]
      exact ih (fun k hk => hd k (by omega)) (fun k hk => h1 k (by omega)) (fun k k' hk hk' => h k k' (by omega) (by omega))
theorem zt_cnt (a v N : Nat) : zt_sum (fun t => if a ≤ t ∧ t < a + v then 1 else 0) N = min N (a + v) - min N a := by
  induction N with
  | zero => simp [zt_sum]
  | succ N ih =>
    show zt_sum (fun t => if a ≤ t ∧ t < a + v then 1 else 0) N + (if a ≤ N ∧ N < a + v then 1 else 0) = _
    rw [ih]
    split <;> omega
/-- intervals that don't meet, within lo .. hi -/
theorem zt_pack {f lo hi : Nat} {m v : Nat → Nat} (h1 : ∀ k, k < f → 0 < v k → lo ≤ m k ∧ m k + v k ≤ hi)
    (h2 : ∀ k k' t, k < f → k' < f → m k ≤ t → t < m k + v k → m k' ≤ t → t < m k' + v k' → k = k') : zt_sum v f ≤ hi - lo := by
  have e1 : zt_sum v f ≤ zt_sum (fun k => zt_sum (fun t => if m k ≤ t ∧ t < m k + v k then 1 else 0) hi) f := by
    apply zt_sum_le
    intro k hk
    rw [zt_cnt]
    rcases Nat.eq_zero_or_pos (v k) with z | z
    · omega
    · have := h1 k hk z
      omega
  rw [zt_sum_swap (fun k t => if m k ≤ t ∧ t < m k + v k then 1 else 0)] at e1
  have e2 : zt_sum (fun t => zt_sum (fun k => if m k ≤ t ∧ t < m k + v k then 1 else 0) f) hi ≤ zt_sum (fun t => if lo ≤ t ∧ t < lo + hi then 1 else 0) hi := by
    apply zt_sum_le
    intro t ht
    by_cases hl : lo ≤ t
    · rw [if_pos ⟨hl, by omega⟩]
      refine zt_one (P := fun k => m k ≤ t ∧ t < m k + v k) _ (fun k hk hn => if_neg hn) (fun k hk => ?_) (fun k k' hk hk' p p' => h2 k k' t hk hk' p.1 p.2 p'.1 p'.2)
      show (if m k ≤ t ∧ t < m k + v k then 1 else 0) ≤ 1
      split <;> omega
    · rw [if_neg (by omega)]
      rw [zt_none (P := fun k => m k ≤ t ∧ t < m k + v k) _ (fun k hk hn => if_neg hn) (fun k hk z => ?_)]
      · exact Nat.le_refl 0
      · have := h1 k hk (by omega)
        omega
  rw [zt_cnt] at e2
  omega
theorem zt_max (φ : Nat → Nat) (Q : Nat → Prop) {n : Nat} : ∀ i, i < n → Q i → ∃ b, b < n ∧ Q b ∧ ∀ p, p < n → Q p → φ p ≤ φ b := by
  induction n with
  | zero => intro i hi _; omega
  | succ n ih =>
    intro i hi qi
    by_cases hex : ∃ j, j < n ∧ Q j
    · obtain ⟨j, hj, qj⟩ := hex
      obtain ⟨b, hb, qb, hm⟩ := ih j hj qj
      by_cases hn : Q n ∧ φ b < φ n
      · refine ⟨n, by omega, hn.1, fun p hp qp => ?_⟩
        by_cases e : p = n
        · rw [e]
          exact Nat.le_refl _
        · have := hm p (by omega) qp
          omega
      · refine ⟨b, by omega, qb, fun p hp qp => ?_⟩
        by_cases e : p = n
        · subst e
          exact Nat.le_of_not_lt (fun z => hn ⟨qp, z⟩)
        · exact hm p (by omega) qp
    · have e : i = n := by
        apply Classical.byContradiction
        intro hne
        exact hex ⟨i, by omega, qi⟩
      subst e
      refine ⟨i, by omega, qi, fun p hp qp => ?_⟩
      by_cases e : p = i
      · rw [e]
        exact Nat.le_refl _
      · exact absurd ⟨p, by omega, qp⟩ hex
/-- the length of the path from i to j over the first f edges -/
def zt_pth (S V : Nat → Nat) (i j : Nat) (f : Nat) : Nat := zt_sum (fun k => if (S k).testBit i = (S k).testBit j then 0 else V k) f
theorem zt_pth_tri (S V : Nat → Nat) (i j k f : Nat) : zt_pth S V i j f ≤ zt_pth S V i k f + zt_pth S V k j f := by
  unfold zt_pth
  rw [← zt_sum_add]
  apply zt_sum_le
  intro e _
  by_cases h1 : (S e).testBit i = (S e).testBit k
  · rw [if_pos h1, h1]
    omega
  · rw [if_neg h1]
    split <;> omega
theorem zt_gap {M : Nat → Nat → Nat} {c s w i j : Nat} (hD : zt_D c M) (hg : zt_ge M s c (w : Int)) (hi : i < c) (hj : j < c) (hs : ¬ s.testBit i = s.testBit j) :
    ∃ m, 60 - M i j ≤ m ∧ m + w ≤ 60 + M i j ∧ ∀ p, p < c → (s.testBit p = s.testBit i → M i p + 60 - M p j ≤ m) ∧ (¬ s.testBit p = s.testBit i → m + w ≤ M i p + 60 - M p j) := by
  obtain ⟨b, hb, qb, hm⟩ := zt_max (fun p => M i p + 60 - M p j) (fun p => s.testBit p = s.testBit i) i hi rfl
  have far : ∀ p, p < c → ¬ s.testBit p = s.testBit i → M i b + 60 - M b j + w ≤ M i p + 60 - M p j := by
    intro p hp tp
    have s1 := hD b j hb hj
    have s2 := hD p j hp hj
    have s3 := hD p i hp hi
    cases ti : s.testBit i
    · have tj : s.testBit j = true := by
        cases tj : s.testBit j
        · exact absurd (ti.trans tj.symm) hs
        · rfl
      have tp' : s.testBit p = true := by
        cases tp' : s.testBit p
        · exact absurd (tp'.trans ti.symm) tp
        · rfl
      have h := hg p j i b hp hj hi hb tp' tj ti (qb.trans ti)
      have s4 := hD j b hj hb
      unfold zt_q at h
      omega
    · have tj : s.testBit j = false := by
        cases tj : s.testBit j
        · rfl
        · exact absurd (ti.trans tj.symm) hs
      have tp' : s.testBit p = false := by
        cases tp' : s.testBit p
        · rfl
        · exact absurd (tp'.trans ti.symm) tp
      have h := hg i b p j hi hb hp hj ti (qb.trans ti) tp' tj
      unfold zt_q at h
      omega
  refine ⟨M i b + 60 - M b j, ?_, ?_, fun p hp => ⟨fun tp => hm p hp tp, fun tp => far p hp tp⟩⟩
  · have h1 := hm i hi rfl
    have s1 := hD i j hi hj
    have h2 : M i i + 60 - M i j ≤ M i b + 60 - M b j := h1
    omega
  · have h1 := far j hj (fun z => hs z.symm)
    have s1 := hD j j hj hj
    omega
/-- Buneman: paths are at most twice the distances -/
theorem zt_path_le {M : Nat → Nat → Nat} {c f : Nat} {S V : Nat → Nat} (hD : zt_D c M) (hS : ∀ k, k < f → zt_ok M c (S k) (V k)) (inj : ∀ k k', k < f → k' < f → S k = S k' → k = k')
    {i j : Nat} (hi : i < c) (hj : j < c) : zt_pth S V i j f ≤ 2 * M i j := by
  have hex : ∀ k, ∃ m, k < f → ¬ (S k).testBit i = (S k).testBit j → 60 - M i j ≤ m ∧ m + V k ≤ 60 + M i j ∧ ∀ p, p < c → ((S k).testBit p = (S k).testBit i → M i p + 60 - M p j ≤ m) ∧ (¬ (S k).testBit p = (S k).testBit i → m + V k ≤ M i p + 60 - M p j) := by
    intro k
    by_cases hk : k < f
    · by_cases hs : (S k).testBit i = (S k).testBit j
      · exact ⟨0, fun _ z => absurd hs z⟩
      · obtain ⟨m, hm⟩ := zt_gap hD (hS k hk).2.2.2.2.2.1 hi hj hs
        exact ⟨m, fun _ _ => hm⟩
    · exact ⟨0, fun z => absurd z hk⟩
  obtain ⟨m, hm⟩ := Classical.axiomOfChoice hex
  have hp : zt_pth S V i j f ≤ (60 + M i j) - (60 - M i j) := by
    refine zt_pack (m := m) (fun k hk hv => ?_) (fun k k' t hk hk' a1 a2 b1 b2 => ?_)
    · by_cases hs : (S k).testBit i = (S k).testBit j
      · rw [if_pos hs] at hv
        omega
      · rw [if_neg hs]
        exact ⟨(hm k hk hs).1, (hm k hk hs).2.1⟩
    · by_cases hs : (S k).testBit i = (S k).testBit j
      · rw [if_pos hs] at a2
        omega
      · by_cases hs' : (S k').testBit i = (S k').testBit j
        · rw [if_pos hs'] at b2
          omega
        · rw [if_neg hs] at a2
          rw [if_neg hs'] at b2
          have side : ∀ p, p < c → ((S k).testBit p = (S k).testBit i ↔ (S k').testBit p = (S k').testBit i) := by
            intro p hp
            have u1 := (hm k hk hs).2.2 p hp
            have u2 := (hm k' hk' hs').2.2 p hp
            constructor
            · intro z
              apply Classical.byContradiction
              intro z'
              have := u1.1 z
              have := u2.2 z'
              omega
            · intro z
              apply Classical.byContradiction
              intro z'
              have := u2.1 z
              have := u1.2 z'
              omega
          have o1 := hS k hk
          have o2 := hS k' hk'
          have s0 := side 0 (by omega)
          rw [o1.1, o2.1] at s0
          have si : (S k).testBit i = (S k').testBit i := by
            cases e1 : (S k).testBit i <;> cases e2 : (S k').testBit i
            · rfl
            · rw [e1, e2] at s0
              exact absurd (s0.mpr rfl) (by decide)
            · rw [e1, e2] at s0
              exact absurd (s0.mp rfl) (by decide)
            · rfl
          apply inj k k' hk hk'
          apply zt_ext o1.2.1 o2.2.1
          intro p hp
          have sp := side p hp
          rw [si] at sp
          cases e1 : (S k).testBit p <;> cases e2 : (S k').testBit p <;> cases e3 : (S k').testBit i <;> rw [e1, e2, e3] at sp <;> first | rfl | (exact absurd (sp.mp rfl) (by decide)) | (exact absurd (sp.mpr rfl) (by decide))
  have := (hD i j hi hj).1
  omega
/-- two edges agree: nothing of one outside the other, or together they are all -/
theorem zt_agree {M : Nat → Nat → Nat} {c A B v w : Nat} (hA : zt_ok M c A v) (hB : zt_ok M c B w) :
    (∀ p, A.testBit p = true → B.testBit p = true) ∨ (∀ p, B.testBit p = true → A.testBit p = true) ∨ (∀ p, p < c → A.testBit p = true ∨ B.testBit p = true) := by
  apply Classical.byContradiction
  intro hc
  have h1 : ∃ p, A.testBit p = true ∧ B.testBit p = false := by
    apply Classical.byContradiction
    intro z
    refine hc (Or.inl (fun p hp => ?_))
    cases e : B.testBit p
    · exact absurd ⟨p, hp, e⟩ z
    · rfl
  have h2 : ∃ p, B.testBit p = true ∧ A.testBit p = false := by
    apply Classical.byContradiction
    intro z
    refine hc (Or.inr (Or.inl (fun p hp => ?_)))
    cases e : A.testBit p
    · exact absurd ⟨p, hp, e⟩ z
    · rfl
  have h3 : ∃ p, p < c ∧ A.testBit p = false ∧ B.testBit p = false := by
    apply Classical.byContradiction
    intro z
    refine hc (Or.inr (Or.inr (fun p hp => ?_)))
    cases e : A.testBit p
    · cases e' : B.testBit p
      · exact absurd ⟨p, hp, e, e'⟩ z
      · exact Or.inr rfl
    · exact Or.inl rfl
  obtain ⟨p, Ap, Bp⟩ := h1
  obtain ⟨q, Bq, Aq⟩ := h2
  obtain ⟨e, he, Ae, Be⟩ := h3
  have hp : p < c := by
    rcases Nat.lt_or_ge p c with z | z
    · exact z
    · rw [zt_hi hA.2.1 z] at Ap
      exact absurd Ap (by decide)
  have hq : q < c := by
    rcases Nat.lt_or_ge q c with z | z
    · exact z
    · rw [zt_hi hB.2.1 z] at Bq
      exact absurd Bq (by decide)
  exact zt_cross (zt_ok_ge hA) (zt_ok_ge hB) (by omega) hA.1 hB.1 hp hq he Ap Bp Aq Bq Ae Be
end
section
/-! ===== ints: bits, bytes, four-point values ===== -/
theorem zt_sl : ∀ n, n < 32 → ((nI n &&& 31).toBitVec.smod 32).toNat = n := by decide +kernel
theorem zt_shr {s i : Nat} (hs : s < 2 ^ 31) (hi : i < 32) : (nI s >>> (nI i &&& 31)) &&& 1 = nI (s / 2 ^ i % 2) := by
  rw [pk_shrN hs _ i (zt_sl i hi)]
  exact pk_andN (Nat.lt_of_le_of_lt (Nat.div_le_self _ _) (by omega)) 1 (by decide)
theorem zt_bit0 {s i : Nat} (hs : s < 128) (hi : i < 7) : ((nI s >>> (nI i &&& 31)) &&& 1) = 0 ↔ s.testBit i = false := by
  rw [zt_shr (by omega) (by omega), ← nI_0, nI_eq (by omega) (by omega), Nat.testBit_eq_decide_div_mod_eq, decide_eq_false_iff_not]
  generalize s / 2 ^ i = z
  omega
theorem zt_bit1 {s i : Nat} (hs : s < 128) (hi : i < 7) : ((nI s >>> (nI i &&& 31)) &&& 1) = 1 ↔ s.testBit i = true := by
  rw [zt_shr (by omega) (by omega), show (1 : Int32) = nI 1 from rfl, nI_eq (by omega) (by omega), Nat.testBit_eq_decide_div_mod_eq, decide_eq_true_iff]
theorem zt_byte : ∀ s, s < 128 → (nI s).toInt8.toInt32 = nI s := by decide +kernel
theorem zt_nar {s : Nat} (h : s < 128) : vp_nar .byte (nI s) = nI s := by
  rw [vp_nar_byte, zt_byte s h]
theorem zt_full : ∀ n, n < 8 → ((1 : Int32) <<< (nI n &&& 31)) - 1 = nI (2 ^ n - 1) := by decide +kernel
theorem zt_pow : ∀ n, n < 8 → ((1 : Int32) <<< (nI n &&& 31)) = nI (2 ^ n) := by decide +kernel
theorem zt_p128 {n : Nat} (h : n ≤ 7) : 2 ^ n ≤ 128 := Nat.pow_le_pow_right (n := 2) (by decide) h
theorem zt_q4 (u v w z : Nat) : ((nI u + nI v) - nI w) - nI z = nI (u + v) - nI (w + z) := by
  rw [← nI_add, ← nI_add]
  grind
theorem zt_q4i {u v w z : Nat} (hu : u ≤ 60) (hv : v ≤ 60) (hw : w ≤ 60) (hz : z ≤ 60) : (((nI u + nI v) - nI w) - nI z).toInt = (u : Int) + (v : Int) - (w : Int) - (z : Int) := by
  rw [zt_q4, pk_sub_toInt (by omega) (by omega)]
  omega
theorem zt_nle {x y : Int32} (h : ¬ x ≤ y) : y.toInt < x.toInt := by
  have h' : ¬ x.toInt ≤ y.toInt := fun z => h (Int32.le_iff_toInt_le.mpr z)
  omega
theorem zt_kk {n x y : Nat} (hx : x < n) (hy : y < n) : x * n + y < n * n ∧ (x * n + y) / n = x ∧ (x * n + y) % n = y := by
  have h0 : 0 < n := by omega
  refine ⟨?_, ?_, ?_⟩
  · have h : (x + 1) * n ≤ n * n := Nat.mul_le_mul_right n hx
    rw [Nat.succ_mul] at h
    omega
  · rw [Nat.add_comm, Nat.add_mul_div_right _ _ h0, Nat.div_eq_of_lt hy, Nat.zero_add]
  · rw [Nat.add_comm, Nat.add_mul_mod_self_right, Nat.mod_eq_of_lt hy]
theorem zt_nn {n : Nat} (h : n ≤ 7) : n * n ≤ 49 := Nat.mul_le_mul h h
theorem zt_7 (i j : Nat) : 7 * nI i + nI j = nI (7 * i + j) := by
  rw [show (7 : Int32) = nI 7 from rfl, pk_mul, nI_add]
/-! ===== the state ===== -/
/-- a place of an int array as a natural -/
def zt_n (a : Nat → Int32) (k : Nat) : Nat := (a k).toNatClampNeg
theorem zt_n_us {a : Nat → Int32} {k s : Nat} (h : s < 2 ^ 31) : zt_n (upd a k (nI s)) k = s := by
  unfold zt_n
  rw [pk_us, nI_clamp h]
theorem zt_n_un {a : Nat → Int32} {k j : Nat} {x : Int32} (h : j ≠ k) : zt_n (upd a k x) j = zt_n a j := by
  unfold zt_n
  rw [pk_un h]
theorem zt_n_eq {a : Nat → Int32} {k s : Nat} (h : a k = nI s) (hs : s < 2 ^ 31) : zt_n a k = s := by
  unfold zt_n
  rw [h, nI_clamp hs]
/-- distances, out of the array -/
def zt_m (a : Nat → Int32) (i j : Nat) : Nat := zt_n a (7 * i + j)
def zt_A (c : Nat) (a : Nat → Int32) : Prop := c ≤ 7 ∧ (∀ i j, i < c → j < c → a (7 * i + j) = nI (zt_m a i j)) ∧ zt_D c (zt_m a)
theorem zt_get {post : Int32 → Prop} {cnt kn fo fr : Int32} {a1 a2 a3 a4 a5 a6 : Nat → Int32} {c i j : Nat} (hA : zt_A c a1) (hi : i < c) (hj : j < c) (H : post (nI (zt_m a1 i j))) :
    wpX_get post (cnt, kn, fo, fr, a1, a2, a3, a4, a5, a6) (nI i) (nI j) := by
  have hc := hA.1
  unfold wpX_get
  dsimp only
  rw [zt_7, nI_clamp (show 7 * i + j < 2 ^ 31 by omega), hA.2.1 i j hi hj]
  exact ⟨pk_in _ 49 (show 7 * i + j < 49 by omega), H⟩
/-! ===== leastFor ===== -/
def zt_lI (M : Nat → Nat → Nat) (s n a b i : Nat) (r : Int) : Prop := r ≤ 1000 ∧ (∀ k, k < i → s.testBit (k / n) = false → s.testBit (k % n) = false → r ≤ zt_q M a b (k / n) (k % n)) ∧ (r = 1000 ∨ ∃ x y, x < n ∧ y < n ∧ s.testBit x = false ∧ s.testBit y = false ∧ r = zt_q M a b x y)
def zt_lf (M : Nat → Nat → Nat) (s n a b : Nat) (r : Int) : Prop := r ≤ 1000 ∧ (∀ x y, x < n → y < n → s.testBit x = false → s.testBit y = false → r ≤ zt_q M a b x y) ∧ (r = 1000 ∨ ∃ x y, x < n ∧ y < n ∧ s.testBit x = false ∧ s.testBit y = false ∧ r = zt_q M a b x y)
theorem zt_lI_keep {M : Nat → Nat → Nat} {s n a b i : Nat} {r : Int} (h : zt_lI M s n a b i r) (hz : s.testBit (i / n) = false → s.testBit (i % n) = false → r ≤ zt_q M a b (i / n) (i % n)) : zt_lI M s n a b (i + 1) r := by
  refine ⟨h.1, fun k hk t1 t2 => ?_, h.2.2⟩
  by_cases e : k = i
  · subst e
    exact hz t1 t2
  · exact h.2.1 k (by omega) t1 t2
theorem zt_lI_new {M : Nat → Nat → Nat} {s n a b i : Nat} {r r' : Int} (h : zt_lI M s n a b i r) (hx : i / n < n) (hy : i % n < n) (tx : s.testBit (i / n) = false) (ty : s.testBit (i % n) = false) (e : r' = zt_q M a b (i / n) (i % n)) (hr : r' ≤ r) : zt_lI M s n a b (i + 1) r' := by
  refine ⟨Int.le_trans hr h.1, fun k hk t1 t2 => ?_, Or.inr ⟨_, _, hx, hy, tx, ty, e⟩⟩
  by_cases ek : k = i
  · subst ek
    exact Int.le_of_eq e
  · exact Int.le_trans hr (h.2.1 k (by omega) t1 t2)
theorem zt_lI_end {M : Nat → Nat → Nat} {s n a b : Nat} {r : Int} (h : zt_lI M s n a b (n * n) r) : zt_lf M s n a b r := by
  refine ⟨h.1, fun x y hx hy tx ty => ?_, h.2.2⟩
  obtain ⟨k1, k2, k3⟩ := zt_kk hx hy
  have t := h.2.1 (x * n + y) k1
  rw [k2, k3] at t
  exact t tx ty
theorem zt_leastFor {post : Int32 → Prop} {cnt kn fo fr : Int32} {a1 a2 a3 a4 a5 a6 : Nat → Int32} {c n s a b : Nat} (hA : zt_A c a1) (hn : n ≤ c) (hs : s < 128) (ha : a < n) (hb : b < n)
    (H : ∀ r : Int32, zt_lf (zt_m a1) s n a b r.toInt → post r) :
    wpX_leastFor post (cnt, kn, fo, fr, a1, a2, a3, a4, a5, a6) (nI s) (nI n) (nI a) (nI b) := by
  have hc := hA.1
  have h0 : 0 < n := by omega
  have hnn := zt_nn (show n ≤ 7 by omega)
  refine pk_loop (fun k i (r : Int32) => wX_leastFor_8 post (nI s) (nI n) (nI a) (nI b) cnt kn fo fr a1 a2 a3 a4 a5 a6 k r (nI i)) (fun i r => zt_lI (zt_m a1) s n a b i r.toInt) (n * n) 0 1000 (by omega) ?_ ?_ ?_
  · exact ⟨by decide, fun k h => absurd h (by omega), Or.inl (by decide)⟩
  · intro k r h
    exact pk_le (n * n) (n * n) (fun _ => H r (zt_lI_end h)) (fun z => absurd z (by omega)) (pk_mul n n)
  · intro k i r hi h hw
    have hx : i / n < n := Nat.div_lt_of_lt_mul hi
    have hy : i % n < n := Nat.mod_lt _ h0
    refine pk_le (n * n) i (fun z => absurd z (by omega)) (fun _ => ⟨nI_ne0 h0 (by omega), nm_r (pk_div (by omega) h0 (by omega)) ⟨nI_ne0 h0 (by omega), nm_r (pk_rem (by omega) h0 (by omega)) ?_⟩⟩) (pk_mul n n)
    refine ek_if (zt_bit0 hs (by omega)) (fun tx => ek_if (zt_bit0 hs (by omega)) (fun ty => ?_) (fun ty => nm_r (nI_1 i) (hw r (zt_lI_keep h (fun _ z => absurd z ty))))) (fun tx => nm_r (nI_1 i) (hw r (zt_lI_keep h (fun z _ => absurd z tx))))
    refine zt_get hA (show a < c by omega) (show i / n < c by omega) ?_
    refine zt_get hA (show b < c by omega) (show i % n < c by omega) ?_
    refine zt_get hA (show a < c by omega) (show b < c by omega) ?_
    refine zt_get hA (show i / n < c by omega) (show i % n < c by omega) ?_
    intro x9 e9
    have d1 := (hA.2.2 a (i / n) (by omega) (by omega)).1
    have d2 := (hA.2.2 b (i % n) (by omega) (by omega)).1
    have d3 := (hA.2.2 a b (by omega) (by omega)).1
    have d4 := (hA.2.2 (i / n) (i % n) (by omega) (by omega)).1
    have e : x9.toInt = zt_q (zt_m a1) a b (i / n) (i % n) := by
      rw [e9, zt_q4i d1 d2 d3 d4]
      rfl
    refine br_c (fun g => nm_r (nI_1 i) (hw r (zt_lI_keep h (fun _ _ => ?_)))) (fun g => nm_r (nI_1 i) (hw x9 (zt_lI_new h hx hy tx ty e ?_)))
    · rw [← e]
      exact Int32.le_iff_toInt_le.mp g
    · exact Int.le_of_lt (zt_nle g)
/-! ===== indexOf ===== -/
def zt_jI (M : Nat → Nat → Nat) (s n i : Nat) (r : Int) : Prop := r ≤ 1000 ∧ (∀ k, k < i → k / n ≤ k % n → s.testBit (k / n) = true → s.testBit (k % n) = true → ∀ x y, x < n → y < n → s.testBit x = false → s.testBit y = false → r ≤ zt_q M (k / n) (k % n) x y) ∧ (r = 1000 ∨ ∃ a b x y, a < n ∧ b < n ∧ x < n ∧ y < n ∧ s.testBit a = true ∧ s.testBit b = true ∧ s.testBit x = false ∧ s.testBit y = false ∧ r = zt_q M a b x y)
theorem zt_jI_keep {M : Nat → Nat → Nat} {s n i : Nat} {r : Int} (h : zt_jI M s n i r) (hz : i / n ≤ i % n → s.testBit (i / n) = true → s.testBit (i % n) = true → ∀ x y, x < n → y < n → s.testBit x = false → s.testBit y = false → r ≤ zt_q M (i / n) (i % n) x y) : zt_jI M s n (i + 1) r := by
  refine ⟨h.1, fun k hk t0 t1 t2 => ?_, h.2.2⟩
  by_cases e : k = i
  · subst e
    exact hz t0 t1 t2
  · exact h.2.1 k (by omega) t0 t1 t2
theorem zt_jI_new {M : Nat → Nat → Nat} {s n i : Nat} {r r' : Int} (h : zt_jI M s n i r) (hx : i / n < n) (hy : i % n < n) (tx : s.testBit (i / n) = true) (ty : s.testBit (i % n) = true) (g : zt_lf M s n (i / n) (i % n) r') (hr : r' ≤ r) : zt_jI M s n (i + 1) r' := by
  refine ⟨g.1, fun k hk t0 t1 t2 x y x1 y1 x2 y2 => ?_, ?_⟩
  · by_cases ek : k = i
    · subst ek
      exact g.2.1 x y x1 y1 x2 y2
    · exact Int.le_trans hr (h.2.1 k (by omega) t0 t1 t2 x y x1 y1 x2 y2)
  · rcases g.2.2 with e | ⟨x, y, x1, y1, x2, y2, e⟩
    · exact Or.inl e
    · exact Or.inr ⟨_, _, x, y, hx, hy, x1, y1, tx, ty, x2, y2, e⟩
theorem zt_jI_end {M : Nat → Nat → Nat} {s n c : Nat} {r : Int} (hD : zt_D c M) (hn : n ≤ c) (h : zt_jI M s n (n * n) r) : zt_ix M s n r := by
  refine ⟨h.1, fun a b x y ha hb hx hy ta tb tx ty => ?_, h.2.2⟩
  rcases Nat.le_total a b with g | g
  · obtain ⟨k1, k2, k3⟩ := zt_kk ha hb
    have t := h.2.1 (a * n + b) k1
    rw [k2, k3] at t
    exact t g ta tb x y hx hy tx ty
  · obtain ⟨k1, k2, k3⟩ := zt_kk hb ha
    have t := h.2.1 (b * n + a) k1
    rw [k2, k3] at t
    have t' := t g tb ta y x hy hx ty tx
    have s1 := (hD a b (by omega) (by omega)).2.1
    have s2 := (hD x y (by omega) (by omega)).2.1
    unfold zt_q at t' ⊢
    omega
theorem zt_indexOf {post : Int32 → Prop} {cnt kn fo fr : Int32} {a1 a2 a3 a4 a5 a6 : Nat → Int32} {c n s : Nat} (hA : zt_A c a1) (h0 : 0 < n) (hn : n ≤ c) (hs : s < 128)
    (H : ∀ r : Int32, zt_ix (zt_m a1) s n r.toInt → post r) :
    wpX_indexOf post (cnt, kn, fo, fr, a1, a2, a3, a4, a5, a6) (nI s) (nI n) := by
  have hc := hA.1
  have hnn := zt_nn (show n ≤ 7 by omega)
  refine pk_loop (fun k i (r : Int32) => wX_indexOf_7 post (nI s) (nI n) cnt kn fo fr a1 a2 a3 a4 a5 a6 k r (nI i)) (fun i r => zt_jI (zt_m a1) s n i r.toInt) (n * n) 0 1000 (by omega) ?_ ?_ ?_
  · exact ⟨by decide, fun k h => absurd h (by omega), Or.inl (by decide)⟩
  · intro k r h
    exact pk_le (n * n) (n * n) (fun _ => H r (zt_jI_end hA.2.2 hn h)) (fun z => absurd z (by omega)) (pk_mul n n)
  · intro k i r hi h hw
    have hx : i / n < n := Nat.div_lt_of_lt_mul hi
    have hy : i % n < n := Nat.mod_lt _ h0
    refine pk_le (n * n) i (fun z => absurd z (by omega)) (fun _ => ⟨nI_ne0 h0 (by omega), nm_r (pk_div (by omega) h0 (by omega)) ⟨nI_ne0 h0 (by omega), nm_r (pk_rem (by omega) h0 (by omega)) ?_⟩⟩) (pk_mul n n)
    refine pk_lt (i % n) (i / n) (fun z => nm_r (nI_1 i) (hw r (zt_jI_keep h (fun z' => absurd z' (by omega))))) (fun z => ?_)
    refine ek_if (zt_bit1 hs (by omega)) (fun tx => ek_if (zt_bit1 hs (by omega)) (fun ty => ?_) (fun ty => nm_r (nI_1 i) (hw r (zt_jI_keep h (fun _ _ z => absurd z ty))))) (fun tx => nm_r (nI_1 i) (hw r (zt_jI_keep h (fun _ z => absurd z tx))))
    refine zt_leastFor hA hn hs hx hy (fun r' g => ?_)
    refine br_c (fun g2 => nm_r (nI_1 i) (hw r (zt_jI_keep h (fun _ _ _ x y x1 y1 x2 y2 => ?_)))) (fun g2 => nm_r (nI_1 i) (hw r' (zt_jI_new h hx hy tx ty g ?_)))
    · exact Int.le_trans (Int32.le_iff_toInt_le.mp g2) (g.2.1 x y x1 y1 x2 y2)
    · exact Int.le_of_lt (zt_nle g2)
/-! ===== tryEdge ===== -/
theorem zt_tryEdge {post : St1 → Prop} {cnt kn fo : Int32} {a1 a2 a3 a4 a5 a6 : Nat → Int32} {c n s fr : Nat} (hA : zt_A c a1) (h0 : 0 < n) (hn : n ≤ c) (hs : s < 2 ^ n) (hfr : fr < 2 ^ 31)
    (H0 : post (cnt, kn, fo, nI fr, a1, a2, a3, a4, a5, a6))
    (H1 : ∀ w : Nat, s ≠ 2 ^ n - 1 → 0 < w → zt_ix (zt_m a1) s n (w : Int) → post (cnt, kn, fo, nI (fr + 1), a1, a2, a3, upd a4 fr (nI s), upd a5 fr (nI w), a6)) :
    wpX_tryEdge post (cnt, kn, fo, nI fr, a1, a2, a3, a4, a5, a6) (nI s) (nI n) := by
  have hc := hA.1
  have h128 := zt_p128 (show n ≤ 7 by omega)
  refine pk_eq s (2 ^ n - 1) (fun _ => H0) (fun z => ?_) rfl (zt_full n (by omega))
  refine zt_indexOf hA h0 hn (by omega) (fun r hr => ?_)
  refine br_c (fun _ => H0) (fun g => ?_)
  have g' : 0 < r.toInt := by
    have g' := zt_nle g
    rw [show (0 : Int32).toInt = 0 from by decide] at g'
    exact g'
  have gn : ¬ r < 0 := by
    rw [Int32.lt_iff_toInt_lt, show (0 : Int32).toInt = 0 from by decide]
    omega
  obtain ⟨w, hw, rfl⟩ := nI_of gn
  rw [nI_toInt hw] at hr g'
  refine pk_le 32 fr (fun _ => H0) (fun z2 => ⟨pk_in fr 32 z2, nm_r ?_ ⟨pk_in fr 32 z2, nm_r ?_ (nm_r (nI_1 fr) (H1 w z (by omega) hr))⟩⟩)
  · rw [nI_clamp hfr, zt_byte s (by omega)]
  · rw [nI_clamp hfr]
end
section
/-! ===== sortFresh ===== -/
def zt_SO (a4 a5 : Nat → Int32) (k : Nat) (a2 a3 : Nat → Int32) : Prop := (∀ j, j < k → ∃ i, i < k ∧ a2 j = a4 i ∧ a3 j = a5 i) ∧ (∀ j j', j < j' → j' < k → zt_n a2 j < zt_n a2 j')
def zt_SI (a2 a3 : Nat → Int32) (x k t : Nat) (b2 b3 : Nat → Int32) : Prop := t ≤ k ∧ (∀ j, j < t → b2 j = a2 j ∧ b3 j = a3 j) ∧ (∀ j, t < j → j ≤ k → b2 j = a2 (j - 1) ∧ b3 j = a3 (j - 1)) ∧ (∀ j, t ≤ j → j < k → x < zt_n a2 j)
theorem zt_n_c {a b : Nat → Int32} {i j : Nat} (h : a i = b j) : zt_n a i = zt_n b j := by
  unfold zt_n
  rw [h]
theorem zt_ins {a2 a3 a4 a5 b2 b3 : Nat → Int32} {fr k t : Nat} (hinj : ∀ i i', i < fr → i' < fr → zt_n a4 i = zt_n a4 i' → i = i') (hk : k < fr) (hO : zt_SO a4 a5 k a2 a3)
    (hI : zt_SI a2 a3 (zt_n a4 k) k t b2 b3) (hle : ∀ t', t = t' + 1 → zt_n a2 t' ≤ zt_n a4 k) : zt_SO a4 a5 (k + 1) (upd b2 t (a4 k)) (upd b3 t (a5 k)) := by
  obtain ⟨i0, i1, i2, i3⟩ := hI
  have lt : ∀ j, j < t → zt_n a2 j < zt_n a4 k := by
    intro j hj
    obtain ⟨i, hi, e, _⟩ := hO.1 j (by omega)
    have ne : zt_n a2 j ≠ zt_n a4 k := by
      intro z
      have e2 : zt_n a2 j = zt_n a4 i := zt_n_c e
      exact absurd (hinj i k (by omega) hk (e2.symm.trans z)) (by omega)
    have l := hle (t - 1) (by omega)
    by_cases ej : j = t - 1
    · subst ej
      omega
    · have := hO.2 j (t - 1) (by omega) (by omega)
      omega
  have vlo : ∀ j, j < t → zt_n (upd b2 t (a4 k)) j = zt_n a2 j := by
    intro j hj
    rw [zt_n_un (by omega)]
    exact zt_n_c (i1 j hj).1
  have vt : zt_n (upd b2 t (a4 k)) t = zt_n a4 k := by
    unfold zt_n
    rw [pk_us]
  have vhi : ∀ j, t < j → j ≤ k → zt_n (upd b2 t (a4 k)) j = zt_n a2 (j - 1) := by
    intro j hj hj'
    rw [zt_n_un (by omega)]
    exact zt_n_c (i2 j hj hj').1
  constructor
  · intro j hj
    by_cases e : j = t
    · subst e
      exact ⟨k, by omega, pk_us, pk_us⟩
    · rw [pk_un e, pk_un e]
      rcases Nat.lt_or_ge j t with g | g
      · obtain ⟨i, hi, e2, e3⟩ := hO.1 j (by omega)
        exact ⟨i, by omega, (i1 j g).1.trans e2, (i1 j g).2.trans e3⟩
      · obtain ⟨i, hi, e2, e3⟩ := hO.1 (j - 1) (by omega)
        have z := i2 j (by omega) (by omega)
        exact ⟨i, by omega, z.1.trans e2, z.2.trans e3⟩
  · intro j j' h h'
    rcases Nat.lt_trichotomy j t with g | g | g
    · rw [vlo j g]
      rcases Nat.lt_trichotomy j' t with g' | g' | g'
      · rw [vlo j' g']
        exact hO.2 j j' h (by omega)
      · rw [g', vt]
        exact lt j g
      · rw [vhi j' g' (by omega)]
        have h1 := lt j g
        have h2 := i3 (j' - 1) (by omega) (by omega)
        omega
    · rw [g, vt, vhi j' (by omega) (by omega)]
      exact i3 (j' - 1) (by omega) (by omega)
    · rw [vhi j g (by omega), vhi j' (by omega) (by omega)]
      exact hO.2 (j - 1) (j' - 1) (by omega) (by omega)
theorem zt_s75 {post : St1 → Prop} {J : Int32 → Int32 → (Nat → Int32) → (Nat → Int32) → (Nat → Int32) → (Nat → Int32) → (Nat → Int32) → (Nat → Int32) → Prop} {cnt kn fr : Int32} {a1 b2 b3 a4 a5 a6 : Nat → Int32} {k t x : Nat}
    (hk : k < 32) (ht : t < 32) (h4 : a4 k = nI x) (hx : x < 128) (HJ : J (nI (k + 1)) (nI (k + 1)) a1 (upd b2 t (a4 k)) (upd b3 t (a5 k)) a4 a5 a6) :
    wX_sortFresh_75 post J (nI k) (nI t) cnt kn (nI k) fr a1 b2 b3 a4 a5 a6 := by
  refine ⟨pk_in k 32 hk, pk_in t 32 ht, nm_r (e' := upd b2 t (a4 k)) ?_ ⟨pk_in k 32 hk, pk_in t 32 ht, nm_r (e' := upd b3 t (a5 k)) ?_ (nm_r (nI_1 k) (nm_r (nI_1 k) HJ))⟩⟩
  · rw [nI_clamp (show k < 2 ^ 31 by omega), nI_clamp (show t < 2 ^ 31 by omega), h4, zt_nar hx]
  · rw [nI_clamp (show k < 2 ^ 31 by omega), nI_clamp (show t < 2 ^ 31 by omega)]
theorem zt_s20 {post : St1 → Prop} {J : Int32 → Int32 → (Nat → Int32) → (Nat → Int32) → (Nat → Int32) → (Nat → Int32) → (Nat → Int32) → (Nat → Int32) → Prop} {cnt kn fri : Int32} {a1 a2 a3 a4 a5 a6 : Nat → Int32} {fr k : Nat} (hfr : fr ≤ 32)
    (h4 : ∀ i, i < fr → a4 i = nI (zt_n a4 i) ∧ zt_n a4 i < 128) (hinj : ∀ i i', i < fr → i' < fr → zt_n a4 i = zt_n a4 i' → i = i') (hk : k < fr) (hO : zt_SO a4 a5 k a2 a3)
    (H : ∀ c2 c3, zt_SO a4 a5 (k + 1) c2 c3 → J (nI (k + 1)) (nI (k + 1)) a1 c2 c3 a4 a5 a6) :
    ∃ fu, wX_sortFresh_20 post J (nI k) cnt kn (nI k) fri fu (nI k) a1 a2 a3 a4 a5 a6 := by
  refine ⟨k + 1, pk_loopD (fun n t (s : (Nat → Int32) × (Nat → Int32)) => wX_sortFresh_20 post J (nI k) cnt kn (nI k) fri n (nI t) a1 s.1 s.2 a4 a5 a6) (fun t s => zt_SI a2 a3 (zt_n a4 k) k t s.1 s.2) ?_ ?_ k (a2, a3) ?_⟩
  · intro n s h
    refine pk_le 0 0 (fun _ => zt_s75 (by omega) (by omega) (h4 k hk).1 (h4 k hk).2 (H _ _ (zt_ins hinj hk hO h (fun t' e => absurd e (by omega))))) (fun z => absurd z (by omega))
  · intro n t s h hw
    obtain ⟨b2, b3⟩ := s
    have h' : zt_SI a2 a3 (zt_n a4 k) k (t + 1) b2 b3 := h
    obtain ⟨i0, i1, i2, i3⟩ := h'
    obtain ⟨i, hi, e2, e3⟩ := hO.1 t (by omega)
    have e2n : zt_n a2 t = zt_n a4 i := zt_n_c e2
    have h4i := h4 i (by omega)
    have h4k := h4 k hk
    have eb : b2 t = nI (zt_n a2 t) := by rw [(i1 t (by omega)).1, e2n, e2, ← h4i.1]
    show wX_sortFresh_20 post J (nI k) cnt kn (nI k) fri (n + 1) (nI (t + 1)) a1 b2 b3 a4 a5 a6
    refine pk_le (t + 1) 0 (fun z => absurd z (by omega)) (fun _ => ?_)
    rw [nI_pred t, nI_clamp (show t < 2 ^ 31 by omega), nI_clamp (show k < 2 ^ 31 by omega), nI_clamp (show t + 1 < 2 ^ 31 by omega)]
    refine ⟨pk_in t 32 (by omega), pk_in k 32 (by omega), pk_le (zt_n a2 t) (zt_n a4 k) (fun z => zt_s75 (by omega) (by omega) h4k.1 h4k.2 (H _ _ (zt_ins hinj hk hO h (fun t' e => ?_)))) (fun z => ⟨pk_in t 32 (by omega), pk_in (t + 1) 32 (by omega), nm_r (e' := upd b2 (t + 1) (b2 t)) ?_ ⟨pk_in t 32 (by omega), pk_in (t + 1) 32 (by omega), nm_r (e' := upd b3 (t + 1) (b3 t)) rfl (nm_r (pk_m1 t) (hw (upd b2 (t + 1) (b2 t), upd b3 (t + 1) (b3 t)) ?_))⟩⟩) eb h4k.1⟩
    · have et : t' = t := by omega
      rw [et]
      exact z
    · rw [eb, zt_nar (by omega)]
    · refine ⟨by omega, fun j hj => ?_, fun j hj hj' => ?_, fun j hj hj' => ?_⟩
      · show upd b2 (t + 1) (b2 t) j = a2 j ∧ upd b3 (t + 1) (b3 t) j = a3 j
        rw [pk_un (by omega), pk_un (by omega)]
        exact i1 j (by omega)
      · show upd b2 (t + 1) (b2 t) j = a2 (j - 1) ∧ upd b3 (t + 1) (b3 t) j = a3 (j - 1)
        by_cases e : j = t + 1
        · subst e
          rw [pk_us, pk_us]
          exact i1 t (by omega)
        · rw [pk_un e, pk_un e]
          exact i2 j (by omega) hj'
      · by_cases e : j = t
        · subst e
          exact z
        · exact i3 j (by omega) hj'
  · exact ⟨Nat.le_refl k, fun j _ => ⟨rfl, rfl⟩, fun j h h' => absurd h (by omega), fun j h h' => absurd h (by omega)⟩
theorem zt_sort {post : St1 → Prop} {cnt kn fo : Int32} {a1 a2 a3 a4 a5 a6 : Nat → Int32} {fr : Nat} (hfr : fr ≤ 32)
    (h4 : ∀ i, i < fr → a4 i = nI (zt_n a4 i) ∧ zt_n a4 i < 128) (hinj : ∀ i i', i < fr → i' < fr → zt_n a4 i = zt_n a4 i' → i = i')
    (H : ∀ c2 c3, zt_SO a4 a5 fr c2 c3 → post (cnt, kn, nI fr, nI fr, a1, c2, c3, a4, a5, a6)) :
    wpX_sortFresh post (cnt, kn, fo, nI fr, a1, a2, a3, a4, a5, a6) := by
  refine pk_loop (fun n k (s : (Nat → Int32) × (Nat → Int32)) => wX_sortFresh_7 post cnt kn (nI fr) n (nI k) (nI k) a1 s.1 s.2 a4 a5 a6) (fun k s => zt_SO a4 a5 k s.1 s.2) fr 0 (a2, a3) (by omega) ?_ ?_ ?_
  · exact ⟨fun j h => absurd h (by omega), fun j j' h h' => absurd h' (by omega)⟩
  · intro n s h
    exact pk_le fr fr (fun _ => H s.1 s.2 h) (fun z => absurd z (by omega))
  · intro n k s hk h hw
    exact pk_le fr k (fun z => absurd z (by omega)) (fun _ => zt_s20 hfr h4 hinj hk h (fun c2 c3 h' => hw (c2, c3) h'))
/-! ===== what tryEdge leaves ===== -/
def zt_T (M : Nat → Nat → Nat) (n s fr : Nat) (a4 a5 : Nat → Int32) (fr' : Nat) (b4 b5 : Nat → Int32) : Prop :=
  (fr' = fr ∧ b4 = a4 ∧ b5 = a5) ∨ (s ≠ 2 ^ n - 1 ∧ ∃ w : Nat, 0 < w ∧ zt_ix M s n (w : Int) ∧ fr' = fr + 1 ∧ b4 = upd a4 fr (nI s) ∧ b5 = upd a5 fr (nI w))
theorem zt_try2 {post : St1 → Prop} {cnt kn fo p0 p1 : Int32} {a1 a2 a3 a4 a5 a6 : Nat → Int32} {c n s fr : Nat} (hA : zt_A c a1) (h0 : 0 < n) (hn : n ≤ c) (hs : s < 2 ^ n) (hfr : fr < 2 ^ 31) (e0 : p0 = nI s) (e1 : p1 = nI n)
    (H : ∀ fr' b4 b5, zt_T (zt_m a1) n s fr a4 a5 fr' b4 b5 → post (cnt, kn, fo, nI fr', a1, a2, a3, b4, b5, a6)) :
    wpX_tryEdge post (cnt, kn, fo, nI fr, a1, a2, a3, a4, a5, a6) p0 p1 := by
  subst e0 e1
  exact zt_tryEdge hA h0 hn hs hfr (H fr a4 a5 (Or.inl ⟨rfl, rfl, rfl⟩)) (fun w z hw hx => H (fr + 1) _ _ (Or.inr ⟨z, w, hw, hx, rfl, rfl, rfl⟩))
/-- the found edges of the first n points -/
def zt_E (n f : Nat) (a1 a2 a3 : Nat → Int32) : Prop := f ≤ 2 * n - 3 ∧ (∀ k, k < f → a2 k = nI (zt_n a2 k) ∧ a3 k = nI (zt_n a3 k) ∧ zt_ok (zt_m a1) n (zt_n a2 k) (zt_n a3 k)) ∧ (∀ k k', k < k' → k' < f → zt_n a2 k < zt_n a2 k')
theorem zt_E_inj {n f : Nat} {a1 a2 a3 : Nat → Int32} (h : zt_E n f a1 a2 a3) : ∀ k k', k < f → k' < f → zt_n a2 k = zt_n a2 k' → k = k' := by
  intro k k' hk hk' e
  rcases Nat.lt_trichotomy k k' with g | g | g
  · have := h.2.2 k k' g hk'
    omega
  · exact g
  · have := h.2.2 k' k g hk
    omega
/-- the splits that addPoint tries, in order -/
def zt_cd (S : Nat → Nat) (n e : Nat) : Nat := if e = 0 then 2 ^ n - 1 else if e % 2 = 1 then S (e / 2) else S (e / 2 - 1) ||| 2 ^ n
theorem zt_cd_0 (S : Nat → Nat) (n : Nat) : zt_cd S n 0 = 2 ^ n - 1 := if_pos rfl
theorem zt_cd_o (S : Nat → Nat) (n k : Nat) : zt_cd S n (2 * k + 1) = S k := by
  unfold zt_cd
  rw [if_neg (by omega), if_pos (by omega), show (2 * k + 1) / 2 = k by omega]
theorem zt_cd_e (S : Nat → Nat) (n k : Nat) : zt_cd S n (2 * k + 2) = S k ||| 2 ^ n := by
  unfold zt_cd
  rw [if_neg (by omega), if_neg (by omega), show (2 * k + 2) / 2 - 1 = k by omega]
theorem zt_cd_s (e : Nat) : e = 0 ∨ (∃ k, e = 2 * k + 1) ∨ (∃ k, e = 2 * k + 2) := by
  rcases Nat.eq_zero_or_pos e with z | z
  · exact Or.inl z
  · rcases Nat.mod_two_eq_zero_or_one e with g | g
    · exact Or.inr (Or.inr ⟨e / 2 - 1, by omega⟩)
    · exact Or.inr (Or.inl ⟨e / 2, by omega⟩)
theorem zt_full_n (n : Nat) : (2 ^ n - 1).testBit n = false := by
  rw [Nat.testBit_two_pow_sub_one]
  exact decide_eq_false (by omega)
theorem zt_bne {s t n : Nat} (hs : s.testBit n = false) (ht : t.testBit n = true) : s ≠ t := by
  intro e
  rw [e, ht] at hs
  exact absurd hs (by decide)
theorem zt_or_inj {s t n : Nat} (hs : s < 2 ^ n) (ht : t < 2 ^ n) (e : s ||| 2 ^ n = t ||| 2 ^ n) : s = t := by
  apply zt_ext hs ht
  intro i hi
  rw [← zt_or_lo (s := s) hi, ← zt_or_lo (s := t) hi, e]
theorem zt_cd_ne {S : Nat → Nat} {n f : Nat} (h1 : ∀ k, k < f → S k < 2 ^ n ∧ S k ≠ 2 ^ n - 1) (h2 : ∀ k k', k < f → k' < f → S k = S k' → k = k') : ∀ e e', e < e' → e' < 2 * f + 1 → zt_cd S n e ≠ zt_cd S n e' := by
  intro e e' h h'
  rcases zt_cd_s e' with r' | ⟨k', r'⟩ | ⟨k', r'⟩
  · omega
  · rcases zt_cd_s e with r | ⟨k, r⟩ | ⟨k, r⟩
    · rw [r, r', zt_cd_0, zt_cd_o]
      exact fun z => (h1 k' (by omega)).2 z.symm
    · rw [r, r', zt_cd_o, zt_cd_o]
      intro z
      have := h2 k k' (by omega) (by omega) z
      omega
    · rw [r, r', zt_cd_e, zt_cd_o]
      exact fun z => zt_bne (zt_hi (h1 k' (by omega)).1 (Nat.le_refl n)) (zt_or_n _ n) z.symm
  · rcases zt_cd_s e with r | ⟨k, r⟩ | ⟨k, r⟩
    · rw [r, r', zt_cd_0, zt_cd_e]
      exact zt_bne (zt_full_n n) (zt_or_n _ n)
    · rw [r, r', zt_cd_o, zt_cd_e]
      exact zt_bne (zt_hi (h1 k (by omega)).1 (Nat.le_refl n)) (zt_or_n _ n)
    · rw [r, r', zt_cd_e, zt_cd_e]
      intro z
      have := h2 k k' (by omega) (by omega) (zt_or_inj (h1 k (by omega)).1 (h1 k' (by omega)).1 z)
      omega
/-- the fresh edges, out of the first E tries -/
def zt_G (M : Nat → Nat → Nat) (S : Nat → Nat) (n E fr : Nat) (a4 a5 : Nat → Int32) : Prop :=
  (∀ i, i < fr → a4 i = nI (zt_n a4 i) ∧ a5 i = nI (zt_n a5 i) ∧ zt_ok M (n + 1) (zt_n a4 i) (zt_n a5 i) ∧ ∃ e, e < E ∧ zt_n a4 i = zt_cd S n e) ∧ (∀ i i', i < fr → i' < fr → zt_n a4 i = zt_n a4 i' → i = i')
theorem zt_G_T {M : Nat → Nat → Nat} {S : Nat → Nat} {n E fr fr' s : Nat} {a4 a5 b4 b5 : Nat → Int32} (h : zt_G M S n E fr a4 a5) (t : zt_T M (n + 1) s fr a4 a5 fr' b4 b5) (hn : n ≤ 6) (hs : s = zt_cd S n E) (s0 : s.testBit 0 = true) (sl : s < 2 ^ (n + 1))
    (hne : ∀ e, e < E → zt_cd S n e ≠ s) : zt_G M S n (E + 1) fr' b4 b5 := by
  have h128 := zt_p128 (show n + 1 ≤ 7 by omega)
  rcases t with ⟨t1, t2, t3⟩ | ⟨t0, w, w0, wx, t1, t2, t3⟩
  · subst t1 t2 t3
    refine ⟨fun i hi => ?_, h.2⟩
    obtain ⟨g1, g2, g3, e, he, g4⟩ := h.1 i hi
    exact ⟨g1, g2, g3, e, by omega, g4⟩
  · subst t1 t2 t3
    have w1 := wx.1
    have v4 : zt_n (upd a4 fr (nI s)) fr = s := zt_n_us (by omega)
    have v5 : zt_n (upd a5 fr (nI w)) fr = w := zt_n_us (by omega)
    refine ⟨fun i hi => ?_, fun i i' hi hi' e => ?_⟩
    · by_cases ei : i = fr
      · subst ei
        rw [v4, v5]
        exact ⟨pk_us, pk_us, ⟨s0, sl, t0, w0, wx⟩, E, by omega, hs⟩
      · rw [zt_n_un ei, zt_n_un ei, pk_un ei, pk_un ei]
        obtain ⟨g1, g2, g3, e, he, g4⟩ := h.1 i (by omega)
        exact ⟨g1, g2, g3, e, by omega, g4⟩
    · by_cases ei : i = fr
      · by_cases ei' : i' = fr
        · omega
        · subst ei
          rw [v4, zt_n_un ei'] at e
          obtain ⟨_, _, _, e1, he, g4⟩ := h.1 i' (by omega)
          exact absurd (g4.symm.trans e.symm) (hne e1 he)
      · by_cases ei' : i' = fr
        · subst ei'
          rw [v4, zt_n_un ei] at e
          obtain ⟨_, _, _, e1, he, g4⟩ := h.1 i (by omega)
          exact absurd (g4.symm.trans e) (hne e1 he)
        · rw [zt_n_un ei, zt_n_un ei'] at e
          exact h.2 i i' (by omega) (by omega) e
/-- how many they are -/
def zt_C (M : Nat → Nat → Nat) (S : Nat → Nat) (n k fr : Nat) : Prop := fr ≤ k + 1 ∨ (fr ≤ k + 2 ∧ ∃ k', k' < k ∧ zt_ge M (S k') (n + 1) 1 ∧ zt_ge M (S k' ||| 2 ^ n) (n + 1) 1)
theorem zt_T_n {M : Nat → Nat → Nat} {n s fr fr' : Nat} {a4 a5 b4 b5 : Nat → Int32} (t : zt_T M n s fr a4 a5 fr' b4 b5) : fr' = fr ∨ (fr' = fr + 1 ∧ zt_ge M s n 1) := by
  rcases t with ⟨t1, _, _⟩ | ⟨_, w, w0, wx, t1, _, _⟩
  · exact Or.inl t1
  · exact Or.inr ⟨t1, zt_ge_le wx.2.1 (by omega)⟩
theorem zt_C_step {M : Nat → Nat → Nat} {S : Nat → Nat} {n k f fr fr1 fr2 : Nat} {a4 a5 b4 b5 c4 c5 : Nat → Int32} (h0 : 0 < n) (hk : k < f) (h1 : ∀ k, k < f → (S k).testBit 0 = true ∧ S k < 2 ^ n ∧ S k ≠ 2 ^ n - 1)
    (h2 : ∀ k k', k < f → k' < f → S k = S k' → k = k') (h : zt_C M S n k fr) (t1 : zt_T M (n + 1) (S k) fr a4 a5 fr1 b4 b5) (t2 : zt_T M (n + 1) (S k ||| 2 ^ n) fr1 b4 b5 fr2 c4 c5) : zt_C M S n (k + 1) fr2 := by
  rcases zt_T_n t1 with u1 | ⟨u1, g1⟩
  · rcases zt_T_n t2 with u2 | ⟨u2, g2⟩
    · rcases h with h | ⟨h, _⟩
      · exact Or.inl (by omega)
      · exact Or.inl (by omega)
    · rcases h with h | ⟨h, k', hk', d⟩
      · exact Or.inl (by omega)
      · exact Or.inr ⟨by omega, k', by omega, d⟩
  · rcases zt_T_n t2 with u2 | ⟨u2, g2⟩
    · rcases h with h | ⟨h, k', hk', d⟩
      · exact Or.inl (by omega)
      · exact Or.inr ⟨by omega, k', by omega, d⟩
    · rcases h with h | ⟨h, k', hk', d1, d2⟩
      · exact Or.inr ⟨by omega, k, by omega, g1, g2⟩
      · obtain ⟨p1, p2, p3⟩ := h1 k hk
        obtain ⟨q1, q2, q3⟩ := h1 k' (by omega)
        refine (zt_dbl h0 g1 g2 d1 d2 p1 q1 p2 q2 p3 q3 (fun z => ?_)).elim
        have := h2 k k' hk (by omega) z
        omega
theorem zt_or (a b : Nat) : nI a ||| nI b = nI (a ||| b) := by
  apply Int32.toBitVec_inj.1
  show BitVec.ofNat 32 a ||| BitVec.ofNat 32 b = BitVec.ofNat 32 (a ||| b)
  apply BitVec.eq_of_getLsbD_eq
  intro i hi
  simp [hi]
/-! ===== addPoint ===== -/
theorem zt_addPoint {post : St1 → Prop} {cnt kn fri : Int32} {a1 a2 a3 a4 a5 a6 : Nat → Int32} {c n f : Nat} (hA : zt_A c a1) (h0 : 0 < n) (hn : n < c) (hE : zt_E n f a1 a2 a3)
    (H : ∀ f' fr b2 b3 b4 b5, zt_E (n + 1) f' a1 b2 b3 → post (cnt, kn, nI f', fr, a1, b2, b3, b4, b5, a6)) :
    wpX_addPoint post (cnt, kn, nI f, fri, a1, a2, a3, a4, a5, a6) (nI n) := by
  have hc := hA.1
  have hf := hE.1
  have h128 := zt_p128 (show n ≤ 7 by omega)
  have hpow : 2 ^ (n + 1) = 2 * 2 ^ n := by rw [Nat.pow_succ]; omega
  have hpos : 0 < 2 ^ n := Nat.pow_pos (by decide)
  have S1 : ∀ k, k < f → (zt_n a2 k).testBit 0 = true ∧ zt_n a2 k < 2 ^ n ∧ zt_n a2 k ≠ 2 ^ n - 1 := fun k hk => ⟨(hE.2.1 k hk).2.2.1, (hE.2.1 k hk).2.2.2.1, (hE.2.1 k hk).2.2.2.2.1⟩
  have S2 := zt_E_inj hE
  have S3 := zt_cd_ne (S := zt_n a2) (n := n) (f := f) (fun k hk => (S1 k hk).2) S2
  unfold wpX_addPoint
  refine zt_try2 (fr := 0) (s := 2 ^ n - 1) (n := n + 1) hA (by omega) (by omega) (by omega) (by omega) (zt_full n (by omega)) (nI_1 n) (fun fr' b4 b5 t => ?_)
  have G0 : zt_G (zt_m a1) (zt_n a2) n 0 0 a4 a5 := ⟨fun i hi => absurd hi (by omega), fun i i' hi => absurd hi (by omega)⟩
  have G1 : zt_G (zt_m a1) (zt_n a2) n 1 fr' b4 b5 := zt_G_T G0 t (by omega) (zt_cd_0 _ n).symm (by rw [Nat.testBit_two_pow_sub_one]; exact decide_eq_true h0) (by omega) (fun e he => absurd he (by omega))
  have C1 : zt_C (zt_m a1) (zt_n a2) n 0 fr' := by
    rcases zt_T_n t with u | ⟨u, _⟩
    · exact Or.inl (by omega)
    · exact Or.inl (by omega)
  refine pk_loop (fun m k (s : Nat × (Nat → Int32) × (Nat → Int32)) => wX_addPoint_19 post (nI n) m (nI k) cnt kn (nI f) (nI s.1) a1 a2 a3 s.2.1 s.2.2 a6) (fun k s => zt_G (zt_m a1) (zt_n a2) n (2 * k + 1) s.1 s.2.1 s.2.2 ∧ zt_C (zt_m a1) (zt_n a2) n k s.1) f 0 (fr', b4, b5) (by omega) ⟨G1, C1⟩ ?_ ?_
  · intro m s h
    obtain ⟨fr, d4, d5⟩ := s
    have hG : zt_G (zt_m a1) (zt_n a2) n (2 * f + 1) fr d4 d5 := h.1
    have hC : zt_C (zt_m a1) (zt_n a2) n f fr := h.2
    have hfr : fr ≤ 2 * (n + 1) - 3 := by
      rcases hC with z | ⟨z, k', hk', _⟩
      · omega
      · omega
    have h1n := zt_p128 (show n + 1 ≤ 7 by omega)
    refine pk_le f f (fun _ => zt_sort (fr := fr) (by omega) (fun i hi => ⟨(hG.1 i hi).1, ?_⟩) hG.2 (fun c2 c3 hO => H fr (nI fr) c2 c3 d4 d5 ⟨hfr, fun k hk => ?_, hO.2⟩)) (fun z => absurd z (by omega))
    · have g : zt_n d4 i < 2 ^ (n + 1) := (hG.1 i hi).2.2.1.2.1
      show zt_n d4 i < 128
      omega
    · obtain ⟨i, hi, e2, e3⟩ := hO.1 k hk
      have g := hG.1 i hi
      rw [zt_n_c e2, zt_n_c e3, e2, e3]
      exact ⟨g.1, g.2.1, g.2.2.1⟩
  · intro m k s hk h hw
    obtain ⟨fr, d4, d5⟩ := s
    have hG : zt_G (zt_m a1) (zt_n a2) n (2 * k + 1) fr d4 d5 := h.1
    have hC : zt_C (zt_m a1) (zt_n a2) n k fr := h.2
    have hfr : fr ≤ k + 2 := by
      rcases hC with z | ⟨z, _⟩
      · omega
      · omega
    have s1 := S1 k hk
    have e2 := (hE.2.1 k hk).1
    refine pk_le f k (fun z => absurd z (by omega)) (fun _ => ⟨pk_in k 32 (by omega), zt_try2 (fr := fr) (s := zt_n a2 k) (n := n + 1) hA (by omega) (by omega) (by omega) (by omega) ?_ (nI_1 n) (fun fr1 u4 u5 t1 => ⟨pk_in k 32 (by omega), zt_try2 (fr := fr1) (s := zt_n a2 k ||| 2 ^ n) (n := n + 1) hA (by omega) (by omega) (zt_or_lt s1.2.1) ?_ ?_ (nI_1 n) (fun fr2 v4 v5 t2 => nm_r (nI_1 k) (hw (fr2, v4, v5) ⟨?_, ?_⟩))⟩)⟩)
    · rw [nI_clamp (show k < 2 ^ 31 by omega)]
      exact e2
    · rcases zt_T_n t1 with u | ⟨u, _⟩
      · omega
      · omega
    · rw [nI_clamp (show k < 2 ^ 31 by omega), e2, zt_pow n (by omega), zt_or]
    · have G2 : zt_G (zt_m a1) (zt_n a2) n (2 * k + 1 + 1) fr1 u4 u5 := zt_G_T hG t1 (by omega) (zt_cd_o _ n k).symm s1.1 (by omega) (fun e he => by rw [← zt_cd_o (zt_n a2) n k]; exact S3 e (2 * k + 1) he (by omega))
      have G3 : zt_G (zt_m a1) (zt_n a2) n (2 * k + 1 + 1 + 1) fr2 v4 v5 := zt_G_T G2 t2 (by omega) (zt_cd_e _ n k).symm (by rw [zt_or_lo h0]; exact s1.1) (zt_or_lt s1.2.1) (fun e he => by rw [← zt_cd_e (zt_n a2) n k]; exact S3 e (2 * k + 2) he (by omega))
      exact G3
    · exact zt_C_step h0 hk S1 S2 hC t1 t2
/-! ===== find ===== -/
theorem zt_E_0 {n : Nat} {a1 a2 a3 : Nat → Int32} : zt_E n 0 a1 a2 a3 := ⟨by omega, fun k hk => absurd hk (by omega), fun k k' _ hk => absurd hk (by omega)⟩
theorem zt_find0 {post : St1 → Prop} {fo fr : Int32} {a1 a2 a3 a4 a5 a6 : Nat → Int32} {c : Nat} (hA : zt_A c a1)
    (H : ∀ f fr b2 b3 b4 b5, zt_E c f a1 b2 b3 → post (nI c, 1, nI f, fr, a1, b2, b3, b4, b5, a6)) :
    wpX_find post (nI c, 0, fo, fr, a1, a2, a3, a4, a5, a6) := by
  have hc := hA.1
  refine br_t rfl ?_
  by_cases hz : c = 0
  · exact ⟨1, pk_le c 1 (fun _ => H 0 fr a2 a3 a4 a5 zt_E_0) (fun z => absurd z (by omega))⟩
  · refine pk_loop (fun m i (s : Nat × Int32 × (Nat → Int32) × (Nat → Int32) × (Nat → Int32) × (Nat → Int32)) => wX_find_20 post m (nI i) (nI c) 1 (nI s.1) s.2.1 a1 s.2.2.1 s.2.2.2.1 s.2.2.2.2.1 s.2.2.2.2.2 a6) (fun i s => 0 < i ∧ zt_E i s.1 a1 s.2.2.1 s.2.2.2.1) c 1 (0, fr, a2, a3, a4, a5) (by omega) ⟨by omega, zt_E_0⟩ ?_ ?_
    · intro m s h
      exact pk_le c c (fun _ => H _ _ _ _ _ _ h.2) (fun z => absurd z (by omega))
    · intro m i s hi h hw
      exact pk_le c i (fun z => absurd z (by omega)) (fun _ => zt_addPoint hA h.1 hi h.2 (fun f' fr b2 b3 b4 b5 hE => nm_r (nI_1 i) (hw (f', fr, b2, b3, b4, b5) ⟨by omega, hE⟩)))
/-- where find has been: it leaves all as it is -/
theorem zt_find1 {post : St1 → Prop} {cnt fo fr : Int32} {a1 a2 a3 a4 a5 a6 : Nat → Int32} (H : post (cnt, 1, fo, fr, a1, a2, a3, a4, a5, a6)) :
    wpX_find post (cnt, 1, fo, fr, a1, a2, a3, a4, a5, a6) := br_f (by decide) H
/-- what holds of the object between the calls -/
def zt_K (c : Nat) (kn fo : Int32) (a1 a2 a3 : Nat → Int32) : Prop := zt_A c a1 ∧ (kn = 0 ∨ (kn = 1 ∧ ∃ f, fo = nI f ∧ zt_E c f a1 a2 a3))
theorem zt_find {post : St1 → Prop} {kn fo fr : Int32} {a1 a2 a3 a4 a5 a6 : Nat → Int32} {c : Nat} (hK : zt_K c kn fo a1 a2 a3)
    (H : ∀ f fr b2 b3 b4 b5, zt_E c f a1 b2 b3 → post (nI c, 1, nI f, fr, a1, b2, b3, b4, b5, a6)) :
    wpX_find post (nI c, kn, fo, fr, a1, a2, a3, a4, a5, a6) := by
  obtain ⟨hA, e | ⟨e, f, ef, hE⟩⟩ := hK
  · subst e
    exact zt_find0 hA H
  · subst e ef
    exact zt_find1 (H f fr a2 a3 a4 a5 hE)
end
section
/-! ===== homeOf, above, partsAt, pointsAt: they end; how great they are ===== -/
theorem zt_homeOf {post : Int32 → Prop} {cnt kn fr p : Int32} {a1 a2 a3 a4 a5 a6 : Nat → Int32} {f : Nat} (hf : f ≤ 32) (H : ∀ r, post r) :
    wpX_homeOf post (cnt, kn, nI f, fr, a1, a2, a3, a4, a5, a6) p := by
  refine pk_loop (fun n i (s : Int32) => wX_homeOf_4 post p cnt kn (nI f) fr a1 a2 a3 a4 a5 a6 n s (nI i)) (fun i s => s < 0 ∨ vp_in s 32) f 0 (-1) (by omega) (Or.inl (by decide)) ?_ ?_
  · intro n s _
    exact pk_le f f (fun _ => H s) (fun z => absurd z (by omega))
  · intro n i s hi h hw
    have v : vp_in (nI i) 32 := pk_in i 32 (by omega)
    have st : ∀ z, wX_homeOf_30 post (wX_homeOf_4 post p cnt kn (nI f) fr a1 a2 a3 a4 a5 a6 n) p s (nI i) z cnt kn (nI f) fr a1 a2 a3 a4 a5 a6 := by
      intro z
      exact br_c (fun _ => nm_r (nI_1 i) (hw s h)) (fun _ => br_c (fun _ => nm_r (nI_1 i) (hw (nI i) (Or.inr v))) (fun g => ⟨h.resolve_left g, v, br_c (fun _ => nm_r (nI_1 i) (hw (nI i) (Or.inr v))) (fun _ => nm_r (nI_1 i) (hw s h))⟩))
    exact pk_le f i (fun z => absurd z (by omega)) (fun _ => ⟨v, br_c (fun _ => st 1) (fun _ => st 0)⟩)
theorem zt_above {post : Int32 → Prop} {cnt kn fr p : Int32} {a1 a2 a3 a4 a5 a6 : Nat → Int32} {f : Nat} (hf : f ≤ 32) (hp : vp_in p 32) (H : ∀ r, post r) :
    wpX_above post (cnt, kn, nI f, fr, a1, a2, a3, a4, a5, a6) p := by
  refine pk_loop (fun n i (s : Int32) => wX_above_4 post p cnt kn (nI f) fr a1 a2 a3 a4 a5 a6 n s (nI i)) (fun i s => s < 0 ∨ vp_in s 32) f 0 (-1) (by omega) (Or.inl (by decide)) ?_ ?_
  · intro n s _
    exact pk_le f f (fun _ => H s) (fun z => absurd z (by omega))
  · intro n i s hi h hw
    have v : vp_in (nI i) 32 := pk_in i 32 (by omega)
    have st : ∀ z, wX_above_40 post (wX_above_4 post p cnt kn (nI f) fr a1 a2 a3 a4 a5 a6 n) p s (nI i) z cnt kn (nI f) fr a1 a2 a3 a4 a5 a6 := by
      intro z
      exact br_c (fun _ => nm_r (nI_1 i) (hw s h)) (fun _ => br_c (fun _ => nm_r (nI_1 i) (hw (nI i) (Or.inr v))) (fun g => ⟨h.resolve_left g, v, br_c (fun _ => nm_r (nI_1 i) (hw (nI i) (Or.inr v))) (fun _ => nm_r (nI_1 i) (hw s h))⟩))
    exact pk_le f i (fun z => absurd z (by omega)) (fun _ => br_c (fun _ => st 0) (fun _ => ⟨v, hp, br_c (fun _ => st 1) (fun _ => st 0)⟩))
theorem zt_p49 {post : Int32 → Prop} {kn fr p : Int32} {a1 a2 a3 a4 a5 a6 : Nat → Int32} {c f m0 : Nat} (hf : f ≤ 32) (hc : c ≤ 7) (H : ∀ m, m ≤ m0 + c → post (nI m)) :
    ∃ fu, wX_partsAt_49 post p (nI c) kn (nI f) fr a1 a2 a3 a4 a5 a6 fu (nI m0) 0 := by
  refine pk_loop (fun n i (s : Nat) => wX_partsAt_49 post p (nI c) kn (nI f) fr a1 a2 a3 a4 a5 a6 n (nI s) (nI i)) (fun i s => s ≤ m0 + i) c 0 m0 (by omega) (by omega) ?_ ?_
  · intro n s h
    exact pk_le c c (fun _ => H s h) (fun z => absurd z (by omega))
  · intro n i s hi h hw
    exact pk_le c i (fun z => absurd z (by omega)) (fun _ => zt_homeOf hf (fun r => br_c (fun _ => nm_r (nI_1 s) (nm_r (nI_1 i) (hw (s + 1) (by omega)))) (fun _ => nm_r (nI_1 i) (hw s (by omega)))))
theorem zt_p12 {post : Int32 → Prop} {kn fr p : Int32} {a1 a2 a3 a4 a5 a6 : Nat → Int32} {c f m0 : Nat} (hf : f ≤ 32) (hc : c ≤ 7) (H : ∀ m, m ≤ m0 + f + c → post (nI m)) :
    ∃ fu, wX_partsAt_12 post p (nI c) kn (nI f) fr a1 a2 a3 a4 a5 a6 fu (nI m0) 0 := by
  refine pk_loop (fun n i (s : Nat) => wX_partsAt_12 post p (nI c) kn (nI f) fr a1 a2 a3 a4 a5 a6 n (nI s) (nI i)) (fun i s => s ≤ m0 + i) f 0 m0 (by omega) (by omega) ?_ ?_
  · intro n s h
    exact pk_le f f (fun _ => zt_p49 hf hc (fun m hm => H m (by omega))) (fun z => absurd z (by omega))
  · intro n i s hi h hw
    exact pk_le f i (fun z => absurd z (by omega)) (fun _ => zt_above hf (pk_in i 32 (by omega)) (fun r => br_c (fun _ => nm_r (nI_1 s) (nm_r (nI_1 i) (hw (s + 1) (by omega)))) (fun _ => nm_r (nI_1 i) (hw s (by omega)))))
theorem zt_partsAt {post : Int32 → Prop} {kn fr p : Int32} {a1 a2 a3 a4 a5 a6 : Nat → Int32} {c f : Nat} (hf : f ≤ 32) (hc : c ≤ 7) (H : ∀ m, m ≤ 1 + f + c → post (nI m)) :
    wpX_partsAt post (nI c, kn, nI f, fr, a1, a2, a3, a4, a5, a6) p :=
  br_c (fun _ => zt_p12 (m0 := 1) hf hc H) (fun _ => zt_p12 (m0 := 0) hf hc (fun m hm => H m (by omega)))
theorem zt_pointsAt {post : Int32 → Prop} {kn fr p : Int32} {a1 a2 a3 a4 a5 a6 : Nat → Int32} {c f : Nat} (hf : f ≤ 32) (hc : c ≤ 7) (H : ∀ m, m ≤ c → post (nI m)) :
    wpX_pointsAt post (nI c, kn, nI f, fr, a1, a2, a3, a4, a5, a6) p := by
  refine pk_loop (fun n i (s : Nat) => wX_pointsAt_4 post p (nI c) kn (nI f) fr a1 a2 a3 a4 a5 a6 n (nI s) (nI i)) (fun i s => s ≤ i) c 0 0 (by omega) (by omega) ?_ ?_
  · intro n s h
    exact pk_le c c (fun _ => H s h) (fun z => absurd z (by omega))
  · intro n i s hi h hw
    exact pk_le c i (fun z => absurd z (by omega)) (fun _ => zt_homeOf hf (fun r => br_c (fun _ => nm_r (nI_1 s) (nm_r (nI_1 i) (hw (s + 1) (by omega)))) (fun _ => nm_r (nI_1 i) (hw s (by omega)))))
/-! ===== agreeing ===== -/
theorem zt_acc {s z : Int32} {P : Nat} (hs : 0 ≤ s.toInt) (hs2 : s.toInt ≤ 500000000) (hP : P ≤ 500000000) (hz1 : -100 ≤ z.toInt) (hz2 : z.toInt ≤ 100) : (((s + nI P) - 1) - z).toInt = s.toInt + (P : Int) - 1 - z.toInt := by
  have e1 : (s + nI P).toInt = s.toInt + (P : Int) := by
    rw [Int32.toInt_add, nI_toInt (by omega)]
    exact Int.bmod_eq_of_le (by omega) (by omega)
  have e2 : (s + nI P - 1).toInt = s.toInt + (P : Int) - 1 := by
    rw [Int32.toInt_sub, e1, show (1 : Int32).toInt = 1 from by decide]
    exact Int.bmod_eq_of_le (by omega) (by omega)
  rw [Int32.toInt_sub, e2]
  exact Int.bmod_eq_of_le (by omega) (by omega)
theorem zt_shm : ∀ m, m < 20 → 1 ≤ m → (1 : Int32) <<< ((nI m - 1) &&& 31) = nI (2 ^ (m - 1)) := by decide +kernel
theorem zt_pm : ∀ m, m < 20 → 3 ≤ m → m + 1 ≤ 2 ^ (m - 1) := by decide +kernel
theorem zt_pu : ∀ m, m < 20 → 2 ^ (m - 1) ≤ 262144 := by decide +kernel
theorem zt_im {i f : Nat} (hi : i ≤ 40) (hf : f ≤ 40) : nI f ≤ nI i - 1 ↔ f + 1 ≤ i := by
  rw [Int32.le_iff_toInt_le, show nI i - 1 = nI i - nI 1 from rfl, pk_sub_toInt (by omega) (by omega), nI_toInt (by omega)]
  omega
theorem zt_agreeing {post : Int32 → St1 → Prop} {fr : Int32} {a1 a2 a3 a4 a5 a6 : Nat → Int32} {c f : Nat} (hf : f ≤ 11) (hc : c ≤ 7)
    (H : ∀ r : Int32, nI f ≤ r → post r (nI c, 1, nI f, fr, a1, a2, a3, a4, a5, a6)) :
    wpX_agreeing post (nI c, 1, nI f, fr, a1, a2, a3, a4, a5, a6) := by
  refine zt_find1 ?_
  obtain ⟨n, hn⟩ := pk_loop (fun n i (s : Int32) => wX_agreeing_11 post (nI c) 1 (nI f) fr a1 a2 a3 a4 a5 a6 n s (nI i - 1)) (fun i s => (f : Int) ≤ s.toInt ∧ s.toInt ≤ (f : Int) + 300000 * (i : Int)) (f + 1) 0 (nI f) (by omega)
    (by rw [nI_toInt (by omega)]; omega)
    (fun n s h => ek_if (zt_im (by omega) (by omega)) (fun _ => H s (by rw [Int32.le_iff_toInt_le, nI_toInt (by omega)]; exact h.1)) (fun z => absurd (Nat.le_refl _) z))
    (by
      intro n i s hi h hw
      have h1 : (f : Int) ≤ s.toInt := h.1
      have h2 : s.toInt ≤ (f : Int) + 300000 * (i : Int) := h.2
      have ei : nI i - 1 + 1 = nI (i + 1) - 1 := by rw [nI_pred, Int32.sub_add_cancel]
      refine ek_if (zt_im (by omega) (by omega)) (fun z => absurd z (by omega)) (fun _ => zt_partsAt (by omega) hc (fun m hm => zt_pointsAt (by omega) hc (fun p hp x4 e4 => ?_)))
      have e4i : x4.toInt = (m : Int) - (p : Int) := by
        rw [e4]
        exact pk_sub_toInt (by omega) (by omega)
      have pu := zt_pu m (by omega)
      have st : ∀ z0 : Int32, -100 ≤ z0.toInt → z0.toInt ≤ 100 → (2 ≤ m → z0.toInt + 1 ≤ ((2 ^ (m - 1) : Nat) : Int)) → wX_agreeing_51 post (wX_agreeing_11 post (nI c) 1 (nI f) fr a1 a2 a3 a4 a5 a6 n) s (nI i - 1) (nI m) z0 (nI c) 1 (nI f) fr a1 a2 a3 a4 a5 a6 := by
        intro z0 l1 l2 l3
        refine pk_le m 1 (fun _ => nm_r ei (hw s ⟨h1, by omega⟩)) (fun g x1 e1 => nm_r ei (hw x1 ?_))
        have l4 := l3 (by omega)
        have e1' : x1.toInt = s.toInt + ((2 ^ (m - 1) : Nat) : Int) - 1 - z0.toInt := by
          rw [e1, zt_shm m (by omega) (by omega)]
          exact zt_acc (by omega) (by omega) (by omega) l1 l2
        show (f : Int) ≤ x1.toInt ∧ x1.toInt ≤ (f : Int) + 300000 * ((i + 1 : Nat) : Int)
        rw [e1']
        omega
      refine pk_eq m 2 (fun z => br_c (fun g => st x4 (by omega) (by omega) (fun _ => ?_)) (fun g => st 1 (by decide) (by decide) (fun _ => ?_))) (fun z => st x4 (by omega) (by omega) (fun g => ?_))
      · have g' := Int32.le_iff_toInt_le.mp g
        rw [show (1 : Int32).toInt = 1 from by decide] at g'
        rw [z]
        show x4.toInt + 1 ≤ 2
        omega
      · rw [z]
        decide
      · have := zt_pm m (by omega) (by omega)
        omega)
  refine ⟨n, ?_⟩
  have hn' : wX_agreeing_11 post (nI c) 1 (nI f) fr a1 a2 a3 a4 a5 a6 n (nI f) (nI 0 - 1) := hn
  rw [show nI 0 - 1 = (-1 : Int32) from by decide] at hn'
  exact hn'
/-! ===== weight, edge, index, agrees ===== -/
theorem zt_weight {post : Int32 → St1 → Prop} {fr : Int32} {a1 a2 a3 a4 a5 a6 : Nat → Int32} {c f : Nat} (hf : f ≤ 32) (hE : zt_E c f a1 a2 a3)
    (H : post (nI (zt_sum (zt_n a3) f)) (nI c, 1, nI f, fr, a1, a2, a3, a4, a5, a6)) :
    wpX_weight post (nI c, 1, nI f, fr, a1, a2, a3, a4, a5, a6) := by
  refine zt_find1 ?_
  refine pk_loop (fun n i (s : Nat) => wX_weight_8 post (nI c) 1 (nI f) fr a1 a2 a3 a4 a5 a6 n (nI s) (nI i)) (fun i s => s = zt_sum (zt_n a3) i) f 0 0 (by omega) rfl ?_ ?_
  · intro n s h
    subst h
    exact pk_le f f (fun _ => H) (fun z => absurd z (by omega))
  · intro n i s hi h hw
    refine pk_le f i (fun z => absurd z (by omega)) (fun _ => ⟨pk_in i 32 (by omega), nm_r (e' := nI (s + zt_n a3 i)) ?_ (nm_r (nI_1 i) (hw _ ?_))⟩)
    · rw [nI_clamp (show i < 2 ^ 31 by omega), (hE.2.1 i hi).2.1, nI_add]
    · rw [h]
      rfl
theorem zt_edge {post : Int32 → St1 → Prop} {fr : Int32} {a1 a2 a3 a4 a5 a6 : Nat → Int32} {c f k : Nat} (hf : f ≤ 32) (hE : zt_E c f a1 a2 a3) (hk : k < f)
    (H : post (nI (zt_n a2 k)) (nI c, 1, nI f, fr, a1, a2, a3, a4, a5, a6)) :
    wpX_edge post (nI c, 1, nI f, fr, a1, a2, a3, a4, a5, a6) (nI k) := by
  refine zt_find1 ?_
  refine br_f (nI_pos (by omega)) (pk_lt k f (fun _ => ⟨pk_in k 32 (by omega), ?_⟩) (fun z => absurd z (by omega)))
  rw [nI_clamp (show k < 2 ^ 31 by omega), (hE.2.1 k hk).1]
  exact H
theorem zt_odd {s : Nat} (h : s.testBit 0 = true) : s % 2 = 1 := by
  rw [Nat.testBit_zero] at h
  exact of_decide_eq_true h
theorem zt_badSplit {post : Int32 → Prop} {kn fo fr : Int32} {a1 a2 a3 a4 a5 a6 : Nat → Int32} {c s : Nat} (hc : c ≤ 7) (h2 : 2 ≤ c) (s0 : s.testBit 0 = true) (sl : s < 2 ^ c) (sn : s ≠ 2 ^ c - 1) (H : post 0) :
    wpX_badSplit post (nI c, kn, fo, fr, a1, a2, a3, a4, a5, a6) (nI s) := by
  have h128 := zt_p128 hc
  have ho := zt_odd s0
  refine pk_lt c 2 (fun z => absurd z (by omega)) (fun _ => pk_lt s 1 (fun z => absurd z (by omega)) (fun _ => pk_le (2 ^ c - 1) s (fun z => absurd z (by omega)) (fun _ => br_f ?_ H) (zt_full c (by omega))))
  rw [pk_andN (show s < 2 ^ 32 by omega) 1 (by decide), show s % 2 ^ 1 = 1 from ho]
  decide
theorem zt_gb {a i : Nat} (hi : i < 32) : (nI a).toBitVec.getLsbD i = a.testBit i := by
  show (BitVec.ofNat 32 a).getLsbD i = _
  rw [BitVec.getLsbD_ofNat]
  simp [hi]
theorem zt_sub0 {A B : Nat} (h : ∀ p, A.testBit p = true → B.testBit p = true) : nI A &&& (nI B ^^^ (-1)) = 0 := by
  apply Int32.toBitVec_inj.1
  rw [Int32.toBitVec_and, Int32.toBitVec_xor, show (-1 : Int32).toBitVec = BitVec.allOnes 32 from by decide, show (0 : Int32).toBitVec = 0#32 from by decide]
  apply BitVec.eq_of_getLsbD_eq
  intro i hi
  rw [BitVec.getLsbD_and, BitVec.getLsbD_xor, BitVec.getLsbD_allOnes, zt_gb hi, zt_gb hi, BitVec.getLsbD_zero, decide_eq_true hi]
  cases ha : A.testBit i
  · rfl
  · rw [h i ha]
    rfl
theorem zt_agr {post : Int32 → Prop} {kn fo fr p1 : Int32} {a1 a2 a3 a4 a5 a6 : Nat → Int32} {M : Nat → Nat → Nat} {c A B v w : Nat} (hc : c ≤ 7) (hA : zt_ok M c A v) (hB : zt_ok M c B w) (e1 : p1 = nI B) (H : post 1) :
    wpX_agree post (nI c, kn, fo, fr, a1, a2, a3, a4, a5, a6) (nI A) p1 := by
  subst e1
  refine nm_r (zt_full c (by omega)) (br_c (fun _ => H) (fun g1 => br_c (fun _ => H) (fun g2 => br_t ?_ H)))
  rcases zt_agree hA hB with h | h | h
  · exact absurd (zt_sub0 h) g1
  · exact absurd (zt_sub0 h) g2
  · rw [zt_or]
    refine congrArg nI (Nat.eq_of_testBit_eq (fun i => ?_))
    rw [Nat.testBit_or, Nat.testBit_two_pow_sub_one]
    rcases Nat.lt_or_ge i c with z | z
    · rw [decide_eq_true z]
      rcases h i z with t | t
      · rw [t, Bool.true_or]
      · rw [t, Bool.or_true]
    · rw [decide_eq_false (by omega), zt_hi hA.2.1 z, zt_hi hB.2.1 z]
      rfl
theorem zt_agreesAll {post : Int32 → Prop} {kn fr : Int32} {a1 a2 a3 a4 a5 a6 : Nat → Int32} {c f A v : Nat} (hc : c ≤ 7) (hf : f ≤ 32) (hE : zt_E c f a1 a2 a3) (hA : zt_ok (zt_m a1) c A v) (H : post 1) :
    wpX_agreesWithAll post (nI c, kn, nI f, fr, a1, a2, a3, a4, a5, a6) (nI A) := by
  refine pk_loop (σ := Unit) (fun n i _ => wX_agreesWithAll_4 post (nI A) (nI c) kn (nI f) fr a1 a2 a3 a4 a5 a6 n 1 (nI i)) (fun _ _ => True) f 0 () (by omega) trivial ?_ ?_
  · intro n _ _
    exact pk_le f f (fun _ => ⟨rfl, H⟩) (fun z => absurd z (by omega))
  · intro n i _ hi _ hw
    refine pk_le f i (fun z => absurd z (by omega)) (fun _ => br_f (by decide) ⟨pk_in i 32 (by omega), zt_agr hc hA (hE.2.1 i hi).2.2 ?_ (nm_r (nI_1 i) (hw () trivial))⟩)
    rw [nI_clamp (show i < 2 ^ 31 by omega)]
    exact (hE.2.1 i hi).1
theorem zt_agrees {post : Int32 → St1 → Prop} {fr : Int32} {a1 a2 a3 a4 a5 a6 : Nat → Int32} {c f A v : Nat} (hc : c ≤ 7) (h2 : 2 ≤ c) (hf : f ≤ 32) (hE : zt_E c f a1 a2 a3) (hA : zt_ok (zt_m a1) c A v)
    (H : post 1 (nI c, 1, nI f, fr, a1, a2, a3, a4, a5, a6)) :
    wpX_agrees post (nI c, 1, nI f, fr, a1, a2, a3, a4, a5, a6) (nI A) := by
  unfold wpX_agrees
  refine zt_badSplit hc h2 hA.1 hA.2.1 hA.2.2.1 ?_
  refine br_t rfl ?_
  refine zt_find1 ?_
  exact zt_agreesAll hc hf hE hA (br_f (by decide) H)
theorem zt_index {post : Int32 → Prop} {fr : Int32} {a1 a2 a3 a4 a5 a6 : Nat → Int32} {c f A v : Nat} (hA1 : zt_A c a1) (h2 : 2 ≤ c) (hA : zt_ok (zt_m a1) c A v) (H : post (nI v)) :
    wpX_index post (nI c, 1, nI f, fr, a1, a2, a3, a4, a5, a6) (nI A) := by
  have h128 := zt_p128 hA1.1
  have hl := hA.2.1
  have hv := zt_ok_w hA
  unfold wpX_index
  refine zt_badSplit hA1.1 h2 hA.1 hA.2.1 hA.2.2.1 ?_
  refine br_t rfl ?_
  refine zt_indexOf hA1 (by omega) (Nat.le_refl c) (by omega) (fun r hr => ?_)
  have e : r = nI v := by
    apply Int32.toInt_inj.mp
    rw [nI_toInt (by omega)]
    exact zt_ix_uniq hr hA.2.2.2.2
  rw [e]
  exact H
end
section
/-! ===== pathOf, treeDistance, distance, treelike ===== -/
theorem zt_bb {s i j : Nat} (hs : s < 128) (hi : i < 7) (hj : j < 7) : ((nI s >>> (nI i &&& 31)) &&& 1) = ((nI s >>> (nI j &&& 31)) &&& 1) ↔ s.testBit i = s.testBit j := by
  rw [zt_shr (by omega) (by omega), zt_shr (by omega) (by omega), nI_eq (by omega) (by omega), Nat.testBit_eq_decide_div_mod_eq, Nat.testBit_eq_decide_div_mod_eq, decide_eq_decide]
  generalize s / 2 ^ i = z
  generalize s / 2 ^ j = y
  omega
/-- the arrays of edges, as far as paths read them -/
def zt_B (f : Nat) (a2 a3 : Nat → Int32) : Prop := f ≤ 32 ∧ ∀ k, k < f → a2 k = nI (zt_n a2 k) ∧ a3 k = nI (zt_n a3 k) ∧ zt_n a2 k < 128
theorem zt_E_B {c f : Nat} {a1 a2 a3 : Nat → Int32} (hc : c ≤ 7) (hE : zt_E c f a1 a2 a3) : zt_B f a2 a3 := by
  have h := hE.1
  have h128 := zt_p128 hc
  refine ⟨by omega, fun k hk => ⟨(hE.2.1 k hk).1, (hE.2.1 k hk).2.1, ?_⟩⟩
  have := (hE.2.1 k hk).2.2.2.1
  omega
theorem zt_pathOf {post : Int32 → Prop} {cnt kn fr : Int32} {a1 a2 a3 a4 a5 a6 : Nat → Int32} {f i j : Nat} (hB : zt_B f a2 a3) (hi : i < 7) (hj : j < 7)
    (H : post (nI (zt_pth (zt_n a2) (zt_n a3) i j f))) :
    wpX_pathOf post (cnt, kn, nI f, fr, a1, a2, a3, a4, a5, a6) (nI i) (nI j) := by
  have hf := hB.1
  refine pk_loop (fun n k (s : Nat) => wX_pathOf_5 post (nI i) (nI j) cnt kn (nI f) fr a1 a2 a3 a4 a5 a6 n (nI s) (nI k)) (fun k s => s = zt_pth (zt_n a2) (zt_n a3) i j k) f 0 0 (by omega) rfl ?_ ?_
  · intro n s h
    subst h
    exact pk_le f f (fun _ => H) (fun z => absurd z (by omega))
  · intro n k s hk h hw
    obtain ⟨b2, b3, b4⟩ := hB.2 k hk
    have hck : (nI k).toNatClampNeg = k := nI_clamp (by omega)
    refine pk_le f k (fun z => absurd z (by omega)) (fun _ => ⟨pk_in k 32 (by omega), pk_in k 32 (by omega), ?_⟩)
    rw [hck, b2]
    refine ek_if (zt_bb b4 hi hj) (fun z => br_t rfl (nm_r (nI_1 k) (hw s ?_))) (fun z => br_f (by decide) ⟨pk_in k 32 (by omega), nm_r (e' := nI (s + zt_n a3 k)) ?_ (nm_r (nI_1 k) (hw _ ?_))⟩)
    · rw [h]
      show _ = zt_pth (zt_n a2) (zt_n a3) i j k + (if (zt_n a2 k).testBit i = (zt_n a2 k).testBit j then 0 else zt_n a3 k)
      rw [if_pos z]
      rfl
    · rw [b3, nI_add]
    · rw [h]
      show _ = zt_pth (zt_n a2) (zt_n a3) i j k + (if (zt_n a2 k).testBit i = (zt_n a2 k).testBit j then 0 else zt_n a3 k)
      rw [if_neg z]
theorem zt_missing {post : Int32 → Prop} {kn fo fr : Int32} {a1 a2 a3 a4 a5 a6 : Nat → Int32} {c i : Nat} (hc : c ≤ 7) (hi : i < c) (H : post 0) :
    wpX_missing post (nI c, kn, fo, fr, a1, a2, a3, a4, a5, a6) (nI i) :=
  br_f (nI_pos (by omega)) (pk_lt i c (fun _ => H) (fun z => absurd z (by omega)))
theorem zt_treeDistance {post : Int32 → St1 → Prop} {fr : Int32} {a1 a2 a3 a4 a5 a6 : Nat → Int32} {c f i j : Nat} (hc : c ≤ 7) (hB : zt_B f a2 a3) (hi : i < c) (hj : j < c)
    (H : post (nI (zt_pth (zt_n a2) (zt_n a3) i j f)) (nI c, 1, nI f, fr, a1, a2, a3, a4, a5, a6)) :
    wpX_treeDistance post (nI c, 1, nI f, fr, a1, a2, a3, a4, a5, a6) (nI i) (nI j) := by
  unfold wpX_treeDistance
  refine zt_missing hc hi ?_
  refine br_t rfl ?_
  refine zt_missing hc hj ?_
  refine br_t rfl ?_
  refine zt_find1 ?_
  exact zt_pathOf hB (by omega) (by omega) H
theorem zt_distance {post : Int32 → Prop} {kn fo fr : Int32} {a1 a2 a3 a4 a5 a6 : Nat → Int32} {c i j : Nat} (hA : zt_A c a1) (hi : i < c) (hj : j < c) (H : post (nI (zt_m a1 i j))) :
    wpX_distance post (nI c, kn, fo, fr, a1, a2, a3, a4, a5, a6) (nI i) (nI j) := by
  unfold wpX_distance
  refine zt_missing hA.1 hi ?_
  refine br_t rfl ?_
  refine zt_missing hA.1 hj ?_
  refine br_t rfl ?_
  exact zt_get hA hi hj H
/-- paths against distances, the law's side of it -/
def zt_L (c f : Nat) (a1 a2 a3 : Nat → Int32) : Prop := ∀ i j, i < c → j < c → zt_pth (zt_n a2) (zt_n a3) i j f ≤ 2 * zt_m a1 i j
theorem zt_E_L {c f : Nat} {a1 a2 a3 : Nat → Int32} (hA : zt_A c a1) (hE : zt_E c f a1 a2 a3) : zt_L c f a1 a2 a3 :=
  fun i j hi hj => zt_path_le hA.2.2 (fun k hk => (hE.2.1 k hk).2.2) (zt_E_inj hE) hi hj
/-- s says whether P holds below k -/
def zt_Q (P : Nat → Prop) (k : Nat) (s : Int32) : Prop := (s = 1 ∧ ∀ j, j < k → P j) ∨ (s = 0 ∧ ∃ j, j < k ∧ ¬ P j)
theorem zt_Q_0 {P : Nat → Prop} : zt_Q P 0 1 := Or.inl ⟨rfl, fun j h => absurd h (by omega)⟩
theorem zt_Q_u {P : Nat → Prop} {k : Nat} {s s' : Int32} (h : zt_Q P k s) (h' : zt_Q P k s') : s = s' := by
  rcases h with ⟨e, h⟩ | ⟨e, j, hj, h⟩
  · rcases h' with ⟨e', h'⟩ | ⟨e', j', hj', h'⟩
    · rw [e, e']
    · exact absurd (h j' hj') h'
  · rcases h' with ⟨e', h'⟩ | ⟨e', j', hj', h'⟩
    · exact absurd (h' j hj) h
    · rw [e, e']
theorem zt_Q_t {P : Nat → Prop} {k : Nat} {s : Int32} (h : zt_Q P k s) (hp : P k) : zt_Q P (k + 1) s := by
  rcases h with ⟨e, h⟩ | ⟨e, j, hj, h⟩
  · exact Or.inl ⟨e, lt_s h hp⟩
  · exact Or.inr ⟨e, j, by omega, h⟩
theorem zt_Q_f {P : Nat → Prop} {k : Nat} (hp : ¬ P k) : zt_Q P (k + 1) 0 := Or.inr ⟨rfl, k, by omega, hp⟩
theorem zt_Q_k {P : Nat → Prop} {k : Nat} {s : Int32} (h : zt_Q P k s) (e0 : s = 0) : zt_Q P (k + 1) 0 := by
  rcases h with ⟨e, _⟩ | ⟨e, j, hj, h⟩
  · rw [e] at e0
    exact absurd e0 (by decide)
  · exact Or.inr ⟨rfl, j, by omega, h⟩
theorem zt_Q_1 {P : Nat → Prop} {k : Nat} {s : Int32} (h : zt_Q P k s) (e0 : ¬ s = 0) : s = 1 := by
  rcases h with ⟨e, _⟩ | ⟨e, _⟩
  · exact e
  · exact absurd e e0
/-- the k-th pair is treelike -/
def zt_P (c f : Nat) (a1 a2 a3 : Nat → Int32) (k : Nat) : Prop := zt_pth (zt_n a2) (zt_n a3) (k / c) (k % c) f = 2 * zt_m a1 (k / c) (k % c)
theorem zt_treelike {post : Int32 → St1 → Prop} {fr : Int32} {a1 a2 a3 a4 a5 a6 : Nat → Int32} {c f : Nat} (hA : zt_A c a1) (hB : zt_B f a2 a3) (hL : zt_L c f a1 a2 a3)
    (H : ∀ r : Int32, zt_Q (zt_P c f a1 a2 a3) (c * c) r → post r (nI c, 1, nI f, fr, a1, a2, a3, a4, a5, a6)) :
    wpX_treelike post (nI c, 1, nI f, fr, a1, a2, a3, a4, a5, a6) := by
  have hc := hA.1
  have hcc := zt_nn hc
  refine zt_find1 ?_
  refine pk_loop (fun n k (s : Int32) => wX_treelike_8 post (nI c) 1 (nI f) fr a1 a2 a3 a4 a5 a6 n s (nI k)) (fun k s => zt_Q (zt_P c f a1 a2 a3) k s) (c * c) 0 1 (by omega) zt_Q_0 ?_ ?_
  · intro n s h
    refine pk_le (c * c) (c * c) (fun _ => br_c (fun z => ?_) (fun z => ?_)) (fun z => absurd z (by omega)) (pk_mul c c)
    · rw [z] at h
      exact H 0 h
    · rw [zt_Q_1 h z] at h
      exact H 1 h
  · intro n k s hk h hw
    have h0 : 0 < c := by
      rcases Nat.eq_zero_or_pos c with z | z
      · rw [z] at hk
        omega
      · exact z
    have hx : k / c < c := Nat.div_lt_of_lt_mul hk
    have hy : k % c < c := Nat.mod_lt _ h0
    have n0 : ¬ nI c = 0 := nI_ne0 h0 (by omega)
    have l1 := hL (k / c) (k % c) hx hy
    have l2 := (hA.2.2 (k / c) (k % c) hx hy).1
    refine pk_le (c * c) k (fun z => absurd z (by omega)) (fun _ => ⟨n0, n0, ?_⟩) (pk_mul c c)
    rw [pk_rem (show k < 2 ^ 31 by omega) h0 (by omega), pk_div (show k < 2 ^ 31 by omega) h0 (by omega)]
    refine zt_pathOf hB (by omega) (by omega) (br_c (fun z => nm_r (nI_1 k) (hw 0 (zt_Q_k h z))) (fun z => ⟨n0, n0, zt_get hA hx hy ?_⟩))
    have s1 := zt_Q_1 h z
    subst s1
    exact pk_eq (zt_pth (zt_n a2) (zt_n a3) (k / c) (k % c) f) (2 * zt_m a1 (k / c) (k % c)) (fun g => nm_r (nI_1 k) (hw 1 (zt_Q_t h g))) (fun g => nm_r (nI_1 k) (hw 0 (zt_Q_f g))) rfl (pk_mul 2 _)
/-! ===== the law's ways ===== -/
theorem zt_w59 {post : Int32 → St1 → Prop} {J4 J12 : Int32 → Int32 → Int32 → Int32 → Int32 → Int32 → (Nat → Int32) → (Nat → Int32) → (Nat → Int32) → (Nat → Int32) → (Nat → Int32) → (Nat → Int32) → Prop} {fr x2 : Int32} {a1 a2 a3 a4 a5 a6 : Nat → Int32} {c f i j : Nat} (hA : zt_A c a1) (hB : zt_B f a2 a3) (hL : zt_L c f a1 a2 a3) (hi : i < c) (hj : j < c)
    (H : J12 x2 (nI (j + 1)) (nI c) 1 (nI f) fr a1 a2 a3 a4 a5 a6) :
    ∃ fu, wL_ways_59 post J4 J12 (nI c) x2 (nI i) (nI j) (nI (zt_pth (zt_n a2) (zt_n a3) i j f)) fu 0 (nI c) 1 (nI f) fr a1 a2 a3 a4 a5 a6 := by
  have hc := hA.1
  refine pk_loop (σ := Unit) (fun n k _ => wL_ways_59 post J4 J12 (nI c) x2 (nI i) (nI j) (nI (zt_pth (zt_n a2) (zt_n a3) i j f)) n (nI k) (nI c) 1 (nI f) fr a1 a2 a3 a4 a5 a6) (fun _ _ => True) c 0 () (by omega) trivial ?_ ?_
  · intro n _ _
    exact pk_le c c (fun _ => nm_r (nI_1 j) H) (fun z => absurd z (by omega))
  · intro n k _ hk _ hw
    have l1 := hL i j hi hj
    have l2 := (hA.2.2 i j hi hj).1
    have m1 := hL i k hi hk
    have m2 := (hA.2.2 i k hi hk).1
    have r1 := hL k j hk hj
    have r2 := (hA.2.2 k j hk hj).1
    have t := zt_pth_tri (zt_n a2) (zt_n a3) i j k f
    exact pk_le c k (fun z => absurd z (by omega)) (fun _ => zt_treeDistance hc hB hi hk (zt_treeDistance hc hB hk hj (pk_le (zt_pth (zt_n a2) (zt_n a3) i j f) (zt_pth (zt_n a2) (zt_n a3) i k f + zt_pth (zt_n a2) (zt_n a3) k j f) (fun _ => nm_r (nI_1 k) (hw () trivial)) (fun z => absurd z (by omega)) rfl (nI_add _ _))))
theorem zt_w12 {post : Int32 → St1 → Prop} {J4 : Int32 → Int32 → Int32 → Int32 → Int32 → Int32 → (Nat → Int32) → (Nat → Int32) → (Nat → Int32) → (Nat → Int32) → (Nat → Int32) → (Nat → Int32) → Prop} {fr x2 : Int32} {a1 a2 a3 a4 a5 a6 : Nat → Int32} {c f i : Nat} (hA : zt_A c a1) (hB : zt_B f a2 a3) (hL : zt_L c f a1 a2 a3) (hi : i < c)
    (hQ : zt_Q (zt_P c f a1 a2 a3) (i * c) x2) (H : ∀ s, zt_Q (zt_P c f a1 a2 a3) ((i + 1) * c) s → J4 s (nI (i + 1)) (nI c) 1 (nI f) fr a1 a2 a3 a4 a5 a6) :
    ∃ fu, wL_ways_12 post J4 (nI c) (nI i) fu x2 0 (nI c) 1 (nI f) fr a1 a2 a3 a4 a5 a6 := by
  have hc := hA.1
  refine pk_loop (fun n j (s : Int32) => wL_ways_12 post J4 (nI c) (nI i) n s (nI j) (nI c) 1 (nI f) fr a1 a2 a3 a4 a5 a6) (fun j s => zt_Q (zt_P c f a1 a2 a3) (i * c + j) s) c 0 x2 (by omega) hQ ?_ ?_
  · intro n s h
    refine pk_le c c (fun _ => nm_r (nI_1 i) (H s ?_)) (fun z => absurd z (by omega))
    rw [Nat.succ_mul]
    exact h
  · intro n j s hj h hw
    have l1 := hL i j hi hj
    have l2 := (hA.2.2 i j hi hj).1
    obtain ⟨k1, k2, k3⟩ := zt_kk hi hj
    have eP : zt_P c f a1 a2 a3 (i * c + j) ↔ zt_pth (zt_n a2) (zt_n a3) i j f = 2 * zt_m a1 i j := by
      unfold zt_P
      rw [k2, k3]
    refine pk_le c j (fun z => absurd z (by omega)) (fun _ => zt_treeDistance hc hB hi hj (zt_distance hA hi hj (nm_r (pk_mul 2 _) (pk_le (zt_pth (zt_n a2) (zt_n a3) i j f) (2 * zt_m a1 i j) (fun _ => pk_eq (zt_pth (zt_n a2) (zt_n a3) i j f) (2 * zt_m a1 i j) (fun g => zt_w59 hA hB hL hi hj (hw s ?_)) (fun g => zt_w59 hA hB hL hi hj (hw 0 ?_))) (fun z => absurd z (by omega))))))
    · exact zt_Q_t h (eP.mpr g)
    · exact zt_Q_f (fun z => g (eP.mp z))
theorem zt_waysL {post : Int32 → St1 → Prop} {fr : Int32} {a1 a2 a3 a4 a5 a6 : Nat → Int32} {c f : Nat} (hA : zt_A c a1) (hE : zt_E c f a1 a2 a3)
    (H : post 1 (nI c, 1, nI f, fr, a1, a2, a3, a4, a5, a6)) :
    wpL_ways post (nI c, 1, nI f, fr, a1, a2, a3, a4, a5, a6) (nI c) := by
  have hc := hA.1
  have hB := zt_E_B hc hE
  have hL := zt_E_L hA hE
  refine pk_loop (fun n i (s : Int32) => wL_ways_4 post (nI c) n s (nI i) (nI c) 1 (nI f) fr a1 a2 a3 a4 a5 a6) (fun i s => zt_Q (zt_P c f a1 a2 a3) (i * c) s) c 0 1 (by omega) (by rw [Nat.zero_mul]; exact zt_Q_0) ?_ ?_
  · intro n s h
    refine pk_le c c (fun _ => zt_treelike hA hB hL (fun r hr => ?_)) (fun z => absurd z (by omega))
    have e := zt_Q_u hr h
    refine br_c (fun z => br_t ?_ H) (fun z => br_t ?_ H)
    · rw [e, z]
    · rw [e, zt_Q_1 h z]
  · intro n i s hi h hw
    exact pk_le c i (fun z => absurd z (by omega)) (fun _ => zt_w12 hA hB hL hi h (fun s' h' => hw s' h'))
/-! ===== the law's edges ===== -/
theorem zt_e46 {post : Int32 → St1 → Prop} {fr : Int32} {a1 a2 a3 a4 a5 a6 : Nat → Int32} {c f : Nat} (hA : zt_A c a1) (hE : zt_E c f a1 a2 a3)
    (H : post 1 (nI c, 1, nI f, fr, a1, a2, a3, a4, a5, a6)) :
    ∃ fu, wL_edges_46 post (nI f) fu 0 0 0 (nI c) 1 (nI f) fr a1 a2 a3 a4 a5 a6 := by
  have hc := hA.1
  have hf := hE.1
  have h128 := zt_p128 hc
  refine pk_loop (fun n k (s : Nat × Nat) => wL_edges_46 post (nI f) n (nI s.1) (nI s.2) (nI k) (nI c) 1 (nI f) fr a1 a2 a3 a4 a5 a6) (fun k s => s.1 = zt_sum (zt_n a3) k ∧ ((k = 0 ∧ s.2 = 0) ∨ (0 < k ∧ s.2 = zt_n a2 (k - 1)))) f 0 (0, 0) (by omega) ⟨rfl, Or.inl ⟨rfl, rfl⟩⟩ ?_ ?_
  · intro n s h
    refine pk_le f f (fun _ => zt_weight (by omega) hE (br_t ?_ H)) (fun z => absurd z (by omega))
    rw [h.1]
  · intro n k s hk h hw
    obtain ⟨w, l⟩ := s
    have hw0 : w = zt_sum (zt_n a3) k := h.1
    have hl0 : (k = 0 ∧ l = 0) ∨ (0 < k ∧ l = zt_n a2 (k - 1)) := h.2
    obtain ⟨e2, e3, ok⟩ := hE.2.1 k hk
    have ho := zt_odd ok.1
    have hl := ok.2.1
    have hlt : l < zt_n a2 k := by
      rcases hl0 with ⟨_, z⟩ | ⟨z1, z2⟩
      · omega
      · have := hE.2.2 (k - 1) k (by omega) hk
        omega
    refine pk_le f k (fun z => absurd z (by omega)) (fun _ => zt_edge (by omega) hE hk (pk_le (zt_n a2 k) l (fun z => absurd z (by omega)) (fun _ => zt_agrees hc (by omega) (by omega) hE ok (br_t rfl (zt_index hA (by omega) ok (nm_r (nI_add _ _) (nm_r (nI_1 k) (hw (w + zt_n a3 k, zt_n a2 k) ⟨?_, Or.inr ⟨by omega, ?_⟩⟩))))))))
    · rw [hw0]
      rfl
    · rfl
theorem zt_edgesL {post : Int32 → St1 → Prop} {kn fo fr : Int32} {a1 a2 a3 a4 a5 a6 : Nat → Int32} {c : Nat} (hK : zt_K c kn fo a1 a2 a3)
    (H : ∀ f fr b2 b3 b4 b5, zt_E c f a1 b2 b3 → post 1 (nI c, 1, nI f, fr, a1, b2, b3, b4, b5, a6)) :
    wpL_edges post (nI c, kn, fo, fr, a1, a2, a3, a4, a5, a6) (nI c) := by
  have hA := hK.1
  have hc := hA.1
  refine zt_find hK (fun f fr b2 b3 b4 b5 hE => ?_)
  have hf := hE.1
  have h33 : wL_edges_33 post (nI f) 0 0 (nI c) 1 (nI f) fr a1 b2 b3 b4 b5 a6 := zt_agreeing (by omega) hc (fun r hr => br_t hr (zt_e46 hA hE (H f fr b2 b3 b4 b5 hE)))
  have h24 : wL_edges_24 post (nI c) (nI f) 0 0 (nI c) 1 (nI f) fr a1 b2 b3 b4 b5 a6 := pk_le 2 c (fun _ => h33) (fun z => br_t (by rw [show f = 0 by omega]; rfl) h33)
  refine pk_le c 1 (fun _ => h24) (fun z => pk_lt (2 * c - 3) f (fun z' => absurd z' (by omega)) (fun _ => h24) ?_)
  rw [show (3 : Int32) = nI 3 from rfl, show (2 : Int32) = nI 2 from rfl, pk_mul, pk_sub (by omega)]
end
section
/-! ===== what the turns do to the distances ===== -/
theorem zt_A_mk {c : Nat} {a : Nat → Int32} (M : Nat → Nat → Nat) (hc : c ≤ 7) (h : ∀ x y, x < c → y < c → a (7 * x + y) = nI (M x y)) (hD : zt_D c M) : zt_A c a := by
  have e : ∀ x y, x < c → y < c → zt_m a x y = M x y := by
    intro x y hx hy
    have := (hD x y hx hy).1
    exact zt_n_eq (h x y hx hy) (by omega)
  refine ⟨hc, fun x y hx hy => by rw [e x y hx hy]; exact h x y hx hy, fun x y hx hy => ?_⟩
  rw [e x y hx hy, e y x hy hx, e x x hx hx]
  exact hD x y hx hy
theorem zt_A_le {c c' : Nat} {a : Nat → Int32} (h : zt_A c a) (hc : c' ≤ c) : zt_A c' a :=
  ⟨Nat.le_trans hc h.1, fun x y hx hy => h.2.1 x y (by omega) (by omega), fun x y hx hy => h.2.2 x y (by omega) (by omega)⟩
def zt_up (a : Nat → Int32) (i j v : Nat) : Nat → Int32 := upd (upd a (7 * i + j) (nI v)) (7 * j + i) (nI v)
theorem zt_up_t {a : Nat → Int32} {i j v x y : Nat} (h : (x = i ∧ y = j) ∨ (x = j ∧ y = i)) : zt_up a i j v (7 * x + y) = nI v := by
  unfold zt_up
  by_cases e : 7 * x + y = 7 * j + i
  · rw [e, pk_us]
  · rw [pk_un e]
    have e2 : 7 * x + y = 7 * i + j := by
      rcases h with ⟨h1, h2⟩ | ⟨h1, h2⟩
      · rw [h1, h2]
      · exact absurd (by rw [h1, h2]) e
    rw [e2, pk_us]
theorem zt_up_f {a : Nat → Int32} {i j v x y : Nat} (hi : i < 7) (hj : j < 7) (hx : x < 7) (hy : y < 7) (h : ¬ ((x = i ∧ y = j) ∨ (x = j ∧ y = i))) : zt_up a i j v (7 * x + y) = a (7 * x + y) := by
  unfold zt_up
  rw [pk_un (by omega), pk_un (by omega)]
theorem zt_A_up {c i j v : Nat} {a : Nat → Int32} (hA : zt_A c a) (hi : i < c) (hj : j < c) (hne : i ≠ j) (hv : v ≤ 60) : zt_A c (zt_up a i j v) := by
  have hc := hA.1
  refine zt_A_mk (fun x y => if (x = i ∧ y = j) ∨ (x = j ∧ y = i) then v else zt_m a x y) hc (fun x y hx hy => ?_) (fun x y hx hy => ?_)
  · by_cases h : (x = i ∧ y = j) ∨ (x = j ∧ y = i)
    · rw [if_pos h]
      exact zt_up_t h
    · rw [if_neg h, zt_up_f (by omega) (by omega) (by omega) (by omega) h]
      exact hA.2.1 x y hx hy
  · dsimp only
    obtain ⟨d1, d2, d3⟩ := hA.2.2 x y hx hy
    rw [if_neg (show ¬ ((x = i ∧ x = j) ∨ (x = j ∧ x = i)) by omega)]
    by_cases h : (x = i ∧ y = j) ∨ (x = j ∧ y = i)
    · rw [if_pos h, if_pos (show (y = i ∧ x = j) ∨ (y = j ∧ x = i) by omega)]
      exact ⟨hv, rfl, d3⟩
    · rw [if_neg h, if_neg (show ¬ ((y = i ∧ x = j) ∨ (y = j ∧ x = i)) by omega)]
      exact ⟨d1, d2, d3⟩
theorem zt_put0 {post : St1 → Prop} {cnt kn fo fr p2 : Int32} {a1 a2 a3 a4 a5 a6 : Nat → Int32} {i j v : Nat} (hi : i < 7) (hj : j < 7) (hv : v ≤ 60) (e2 : p2 = nI v)
    (H : post (cnt, 0, fo, fr, zt_up a1 i j v, a2, a3, a4, a5, a6)) :
    wpX_put post (cnt, kn, fo, fr, a1, a2, a3, a4, a5, a6) (nI i) (nI j) p2 := by
  subst e2
  unfold wpX_put
  dsimp only
  rw [zt_7, zt_7, nI_clamp (show 7 * i + j < 2 ^ 31 by omega), nI_clamp (show 7 * j + i < 2 ^ 31 by omega), zt_byte v (by omega)]
  exact ⟨pk_in _ 49 (show 7 * i + j < 49 by omega), nm_e ⟨pk_in _ 49 (show 7 * j + i < 49 by omega), nm_e H⟩⟩
/-! ===== point, drop, set ===== -/
def zt_PI (c v : Nat) (a : Nat → Int32) (i : Nat) (b : Nat → Int32) : Prop := (∀ x y, x < c → y < c → b (7 * x + y) = a (7 * x + y)) ∧ b (7 * c + c) = 0 ∧ (∀ x, x < i → b (7 * x + c) = nI v ∧ b (7 * c + x) = nI v)
theorem zt_PI_step {c v i : Nat} {a b : Nat → Int32} (hc : c < 7) (hi : i < c) (h : zt_PI c v a i b) : zt_PI c v a (i + 1) (zt_up b i c v) := by
  obtain ⟨h1, h2, h3⟩ := h
  refine ⟨fun x y hx hy => ?_, ?_, fun x hx => ?_⟩
  · rw [zt_up_f (by omega) (by omega) (by omega) (by omega) (by omega)]
    exact h1 x y hx hy
  · rw [zt_up_f (by omega) (by omega) (by omega) (by omega) (by omega)]
    exact h2
  · by_cases e : x = i
    · exact ⟨zt_up_t (Or.inl ⟨e, rfl⟩), zt_up_t (Or.inr ⟨rfl, e⟩)⟩
    · rw [zt_up_f (by omega) (by omega) (by omega) (by omega) (by omega), zt_up_f (by omega) (by omega) (by omega) (by omega) (by omega)]
      exact h3 x (by omega)
theorem zt_PI_end {c v : Nat} {a b : Nat → Int32} (hc : c < 7) (hv : v ≤ 60) (hA : zt_A c a) (h : zt_PI c v a c b) : zt_A (c + 1) b := by
  obtain ⟨h1, h2, h3⟩ := h
  refine zt_A_mk (fun x y => if x = c then (if y = c then 0 else v) else (if y = c then v else zt_m a x y)) (by omega) (fun x y hx hy => ?_) (fun x y hx hy => ?_)
  · by_cases ex : x = c
    · rw [if_pos ex]
      by_cases ey : y = c
      · rw [if_pos ey, ex, ey, h2]
        rfl
      · rw [if_neg ey, ex]
        exact (h3 y (by omega)).2
    · rw [if_neg ex]
      by_cases ey : y = c
      · rw [if_pos ey, ey]
        exact (h3 x (by omega)).1
      · rw [if_neg ey, h1 x y (by omega) (by omega)]
        exact hA.2.1 x y (by omega) (by omega)
  · dsimp only
    by_cases ex : x = c
    · by_cases ey : y = c
      · rw [if_pos ex, if_pos ey, if_pos ey, if_pos ex, if_pos ex]
        exact ⟨by omega, rfl, rfl⟩
      · rw [if_pos ex, if_neg ey, if_neg ey, if_pos ex, if_pos ex, if_pos ex]
        exact ⟨hv, rfl, rfl⟩
    · have dx := (hA.2.2 x x (by omega) (by omega)).2.2
      by_cases ey : y = c
      · rw [if_neg ex, if_pos ey, if_pos ey, if_neg ex, if_neg ex, if_neg ex]
        exact ⟨hv, rfl, dx⟩
      · rw [if_neg ex, if_neg ey, if_neg ey, if_neg ex, if_neg ex, if_neg ex]
        exact hA.2.2 x y (by omega) (by omega)
theorem zt_point {post : Int32 → St1 → Prop} {kn fo fr p : Int32} {a1 a2 a3 a4 a5 a6 : Nat → Int32} {c : Nat} (hK : zt_K c kn fo a1 a2 a3)
    (H : ∀ r c kn fo fr b1 b2 b3 b4 b5 b6, zt_K c kn fo b1 b2 b3 → post r (nI c, kn, fo, fr, b1, b2, b3, b4, b5, b6)) :
    wpX_point post (nI c, kn, fo, fr, a1, a2, a3, a4, a5, a6) p := by
  have hA := hK.1
  have hc := hA.1
  refine br_c (fun _ => H _ _ _ _ _ _ _ _ _ _ _ hK) (fun g => br_c (fun g2 => ?_) (fun _ => H _ _ _ _ _ _ _ _ _ _ _ hK))
  obtain ⟨v, hv, rfl⟩ := nI_of2 (n := 60) (M := 60) (by decide) g g2
  refine pk_eq c 7 (fun _ => H _ _ _ _ _ _ _ _ _ _ _ hK) (fun z => ?_)
  have e8 : (8 : Int32) * nI c = nI (7 * c + c) := by
    rw [show (8 : Int32) = nI 8 from rfl, pk_mul]
    exact congrArg nI (by omega)
  rw [e8, nI_clamp (show 7 * c + c < 2 ^ 31 by omega)]
  refine ⟨pk_in _ 49 (show 7 * c + c < 49 by omega), nm_e ?_⟩
  refine pk_loop (fun n i (s : Int32 × (Nat → Int32)) => wX_point_42 post (nI v) n (nI i) (nI c) s.1 fo fr s.2 a2 a3 a4 a5 a6) (fun i s => zt_PI c v a1 i s.2) c 0 (kn, upd a1 (7 * c + c) 0) (by omega) ?_ ?_ ?_
  · refine ⟨fun x y hx hy => ?_, pk_us, fun x hx => absurd hx (by omega)⟩
    exact pk_un (by omega)
  · intro n s h
    exact pk_le c c (fun _ => nm_r (nI_1 c) (H _ (c + 1) 0 fo fr s.2 a2 a3 a4 a5 a6 ⟨zt_PI_end (by omega) hv hA h, Or.inl rfl⟩)) (fun z => absurd z (by omega))
  · intro n i s hi h hw
    exact pk_le c i (fun z => absurd z (by omega)) (fun _ => zt_put0 (by omega) (by omega) hv rfl (nm_r (nI_1 i) (hw (0, zt_up s.2 i c v) (zt_PI_step (by omega) hi h))))
theorem zt_drop {post : Int32 → St1 → Prop} {kn fo fr : Int32} {a1 a2 a3 a4 a5 a6 : Nat → Int32} {c : Nat} (hK : zt_K c kn fo a1 a2 a3)
    (H : ∀ r c kn fo fr b1 b2 b3 b4 b5 b6, zt_K c kn fo b1 b2 b3 → post r (nI c, kn, fo, fr, b1, b2, b3, b4, b5, b6)) :
    wpX_drop post (nI c, kn, fo, fr, a1, a2, a3, a4, a5, a6) := by
  have hA := hK.1
  have hc := hA.1
  exact pk_eq c 0 (fun _ => H _ _ _ _ _ _ _ _ _ _ _ hK) (fun z => nm_r (pk_sub (b := 1) (show 1 ≤ c by omega)) (H _ (c - 1) 0 fo fr a1 a2 a3 a4 a5 a6 ⟨zt_A_le hA (by omega), Or.inl rfl⟩))
theorem zt_missing2 {post : Int32 → Prop} {kn fo fr p : Int32} {a1 a2 a3 a4 a5 a6 : Nat → Int32} {c : Nat} (hc : c ≤ 7) (H0 : ∀ i, i < c → p = nI i → post 0) (H1 : post 1) :
    wpX_missing post (nI c, kn, fo, fr, a1, a2, a3, a4, a5, a6) p := by
  refine br_c (fun _ => H1) (fun g => ?_)
  obtain ⟨i, hi, rfl⟩ := nI_of g
  exact pk_lt i c (fun z => H0 i z rfl) (fun _ => H1)
theorem zt_set {post : Int32 → St1 → Prop} {kn fo fr p0 p1 p2 : Int32} {a1 a2 a3 a4 a5 a6 : Nat → Int32} {c : Nat} (hK : zt_K c kn fo a1 a2 a3)
    (H : ∀ r c kn fo fr b1 b2 b3 b4 b5 b6, zt_K c kn fo b1 b2 b3 → post r (nI c, kn, fo, fr, b1, b2, b3, b4, b5, b6)) :
    wpX_set post (nI c, kn, fo, fr, a1, a2, a3, a4, a5, a6) p0 p1 p2 := by
  have hA := hK.1
  have hc := hA.1
  have n1 : ¬ (1 : Int32) = 0 := by decide
  unfold wpX_set
  refine zt_missing2 hc (fun i hi e0 => ?_) ?_
  rotate_left 1
  · exact br_f n1 (H _ _ _ _ _ _ _ _ _ _ _ hK)
  refine br_t rfl ?_
  refine zt_missing2 hc (fun j hj e1 => ?_) ?_
  rotate_left 1
  · exact br_f n1 (H _ _ _ _ _ _ _ _ _ _ _ hK)
  refine br_t rfl ?_
  subst e0 e1
  refine pk_eq i j (fun _ => H _ _ _ _ _ _ _ _ _ _ _ hK) (fun hne => br_c (fun _ => H _ _ _ _ _ _ _ _ _ _ _ hK) (fun g => br_c (fun g2 => ?_) (fun _ => H _ _ _ _ _ _ _ _ _ _ _ hK)))
  obtain ⟨v, hv, rfl⟩ := nI_of2 (n := 60) (M := 60) (by decide) g g2
  exact zt_get hA hi hj (zt_put0 (by omega) (by omega) hv rfl (H _ c 0 fo fr _ a2 a3 a4 a5 a6 ⟨zt_A_up hA hi hj hne hv, Or.inl rfl⟩))
/-! ===== move ===== -/
theorem zt_move {post : Int32 → St1 → Prop} {kn fo fr x1 x2 : Int32} {a1 a2 a3 a4 a5 a6 : Nat → Int32} {c : Nat} (hK : zt_K c kn fo a1 a2 a3)
    (H : ∀ r c kn fo fr b1 b2 b3 b4 b5 b6, zt_K c kn fo b1 b2 b3 → post r (nI c, kn, fo, fr, b1, b2, b3, b4, b5, b6)) :
    wpX_move post (nI c, kn, fo, fr, a1, a2, a3, a4, a5, a6) x1 x2 := by
  have hc := hK.1.1
  have hcc := zt_nn hc
  refine br_c (fun _ => H _ _ _ _ _ _ _ _ _ _ _ hK) (fun _ => br_c (fun _ => ?_) (fun _ => H _ _ _ _ _ _ _ _ _ _ _ hK))
  refine pk_loop (fun n k (s : Int32 × Int32 × (Nat → Int32)) => wX_move_21 post x1 x2 n s.1 (nI k) (nI c) s.2.1 fo fr s.2.2 a2 a3 a4 a5 a6) (fun k s => zt_K c s.2.1 fo s.2.2 a2 a3) (c * c) 0 (0, kn, a1) (by omega) hK ?_ ?_
  · intro n s h
    exact pk_le (c * c) (c * c) (fun _ => H _ _ _ _ _ _ _ _ _ _ _ h) (fun z => absurd z (by omega)) (pk_mul c c)
  · intro n k s hk h hw
    obtain ⟨ch, kn', b1⟩ := s
    have hK' : zt_K c kn' fo b1 a2 a3 := h
    have h0 : 0 < c := by
      rcases Nat.eq_zero_or_pos c with z | z
      · rw [z] at hk
        omega
      · exact z
    have hx : k / c < c := Nat.div_lt_of_lt_mul hk
    have hy : k % c < c := Nat.mod_lt _ h0
    have n0 : ¬ nI c = 0 := nI_ne0 h0 (by omega)
    have nx := fun s' h' => nm_r (P := fun z => wX_move_21 post x1 x2 n s'.1 z (nI c) s'.2.1 fo fr s'.2.2 a2 a3 a4 a5 a6) (nI_1 k) (hw s' h')
    refine pk_le (c * c) k (fun z => absurd z (by omega)) (fun _ => ⟨n0, nm_r (pk_div (by omega) h0 (by omega)) ⟨n0, nm_r (pk_rem (by omega) h0 (by omega)) (zt_get hK'.1 hx hy ?_)⟩⟩) (pk_mul c c)
    intro x7 e7
    refine br_c (fun b => br_c (fun b' => br_c (fun _ => nx (ch, kn', b1) h) (fun g => br_c (fun _ => nx (ch, kn', b1) h) (fun g2 => ?_))) (fun _ => nx (ch, kn', b1) h)) (fun _ => nx (ch, kn', b1) h)
    obtain ⟨v, hv, e⟩ := nI_of2 (n := 60) (M := 60) (by decide) g (Int32.not_lt.mp g2)
    have hne : k / c ≠ k % c := by
      intro z
      rw [z, b'] at b
      exact absurd b (by decide)
    have hK2 : zt_K c 0 fo (zt_up b1 (k / c) (k % c) v) a2 a3 := ⟨zt_A_up hK'.1 hx hy hne hv, Or.inl rfl⟩
    exact zt_put0 (by omega) (by omega) hv e (br_c (fun _ => nx (ch, 0, _) hK2) (fun _ => nm_e (nx (ch + 1, 0, _) hK2)))
/-! ===== smooth ===== -/
theorem zt_sm67 {post : Int32 → St1 → Prop} {kn fo fr : Int32} {a1 a2 a3 a4 a5 a6 : Nat → Int32} {c : Nat} (hK : zt_K c kn fo a1 a2 a3) (h6 : ∀ j, j < c * c → ∃ v, v ≤ 60 ∧ a6 j = nI v)
    (H : ∀ r c kn fo fr b1 b2 b3 b4 b5 b6, zt_K c kn fo b1 b2 b3 → post r (nI c, kn, fo, fr, b1, b2, b3, b4, b5, b6)) :
    ∃ fu, wX_smooth_67 post fu 0 0 (nI c) kn fo fr a1 a2 a3 a4 a5 a6 := by
  have hc := hK.1.1
  have hcc := zt_nn hc
  refine pk_loop (fun n k (s : Int32 × Int32 × (Nat → Int32)) => wX_smooth_67 post n s.1 (nI k) (nI c) s.2.1 fo fr s.2.2 a2 a3 a4 a5 a6) (fun k s => zt_K c s.2.1 fo s.2.2 a2 a3) (c * c) 0 (0, kn, a1) (by omega) hK ?_ ?_
  · intro n s h
    exact pk_le (c * c) (c * c) (fun _ => H _ _ _ _ _ _ _ _ _ _ _ h) (fun z => absurd z (by omega)) (pk_mul c c)
  · intro n k s hk h hw
    obtain ⟨ch, kn', b1⟩ := s
    have hK' : zt_K c kn' fo b1 a2 a3 := h
    have h0 : 0 < c := by
      rcases Nat.eq_zero_or_pos c with z | z
      · rw [z] at hk
        omega
      · exact z
    have hx : k / c < c := Nat.div_lt_of_lt_mul hk
    have hy : k % c < c := Nat.mod_lt _ h0
    have n0 : ¬ nI c = 0 := nI_ne0 h0 (by omega)
    have nx := fun s' h' => nm_r (P := fun z => wX_smooth_67 post n s'.1 z (nI c) s'.2.1 fo fr s'.2.2 a2 a3 a4 a5 a6) (nI_1 k) (hw s' h')
    obtain ⟨v, hv, e⟩ := h6 k hk
    have e' : a6 (nI k).toNatClampNeg = nI v := by
      rw [nI_clamp (show k < 2 ^ 31 by omega)]
      exact e
    refine pk_le (c * c) k (fun z => absurd z (by omega)) (fun _ => ⟨n0, nm_r (pk_div (by omega) h0 (by omega)) ⟨n0, nm_r (pk_rem (by omega) h0 (by omega)) (pk_le (k % c) (k / c) (fun _ => nx (ch, kn', b1) h) (fun g => ⟨pk_in k 49 (by omega), zt_get hK'.1 hx hy ?_⟩))⟩⟩) (pk_mul c c)
    have hK2 : zt_K c 0 fo (zt_up b1 (k / c) (k % c) v) a2 a3 := ⟨zt_A_up hK'.1 hx hy (by omega) hv, Or.inl rfl⟩
    exact br_c (fun _ => nx (ch, kn', b1) h) (fun _ => ⟨pk_in k 49 (by omega), zt_put0 (by omega) (by omega) hv e' (nm_e (nx (ch + 1, 0, _) hK2))⟩)
theorem zt_smooth {post : Int32 → St1 → Prop} {kn fo fr : Int32} {a1 a2 a3 a4 a5 a6 : Nat → Int32} {c : Nat} (hK : zt_K c kn fo a1 a2 a3)
    (H : ∀ r c kn fo fr b1 b2 b3 b4 b5 b6, zt_K c kn fo b1 b2 b3 → post r (nI c, kn, fo, fr, b1, b2, b3, b4, b5, b6)) :
    wpX_smooth post (nI c, kn, fo, fr, a1, a2, a3, a4, a5, a6) := by
  have hA := hK.1
  have hc := hA.1
  have hcc := zt_nn hc
  refine zt_find hK (fun f fr b2 b3 b4 b5 hE => ?_)
  have hB := zt_E_B hc hE
  have hL := zt_E_L hA hE
  refine pk_loop (fun n k (s : Nat → Int32) => wX_smooth_6 post (nI c) 1 (nI f) fr n (nI k) a1 b2 b3 b4 b5 s) (fun k s => ∀ j, j < k → ∃ v, v ≤ 60 ∧ s j = nI v) (c * c) 0 a6 (by omega) (fun j hj => absurd hj (by omega)) ?_ ?_
  · intro n s h
    exact pk_le (c * c) (c * c) (fun _ => zt_sm67 ⟨hA, Or.inr ⟨rfl, f, rfl, hE⟩⟩ h H) (fun z => absurd z (by omega)) (pk_mul c c)
  · intro n k s hk h hw
    have h0 : 0 < c := by
      rcases Nat.eq_zero_or_pos c with z | z
      · rw [z] at hk
        omega
      · exact z
    have hx : k / c < c := Nat.div_lt_of_lt_mul hk
    have hy : k % c < c := Nat.mod_lt _ h0
    have n0 : ¬ nI c = 0 := nI_ne0 h0 (by omega)
    have l1 := hL (k / c) (k % c) hx hy
    have l2 := (hA.2.2 (k / c) (k % c) hx hy).1
    have up : ∀ v, v ≤ 60 → ∀ j, j < k + 1 → ∃ w, w ≤ 60 ∧ upd s k (nI v) j = nI w := by
      intro v hv j hj
      by_cases e : j = k
      · exact ⟨v, hv, by rw [e, pk_us]⟩
      · rw [pk_un e]
        exact h j (by omega)
    refine pk_le (c * c) k (fun z => absurd z (by omega)) (fun _ => ⟨n0, n0, ?_⟩) (pk_mul c c)
    rw [pk_rem (show k < 2 ^ 31 by omega) h0 (by omega), pk_div (show k < 2 ^ 31 by omega) h0 (by omega), nI_clamp (show k < 2 ^ 31 by omega)]
    refine zt_pathOf hB (by omega) (by omega) (nm_r (pk_shrN (show zt_pth (zt_n b2) (zt_n b3) (k / c) (k % c) f < 2 ^ 31 by omega) _ 1 (by decide)) ?_)
    have l3 : zt_pth (zt_n b2) (zt_n b3) (k / c) (k % c) f / 2 ^ 1 ≤ 60 := by
      rw [Nat.pow_one]
      omega
    refine br_c (fun _ => ⟨pk_in k 49 (by omega), nm_r ?_ (nm_r (nI_1 k) (hw (upd s k (nI (zt_pth (zt_n b2) (zt_n b3) (k / c) (k % c) f / 2 ^ 1))) (up _ l3)))⟩) (fun _ => ⟨pk_in k 49 (by omega), nm_r ?_ (nm_r (nI_1 k) (hw (upd s k (nI 60)) (up 60 (by omega))))⟩)
    · rw [zt_byte _ (by omega)]
    · rfl
/-! ===== a turn ===== -/
theorem zt_t97 {post : St1 → Prop} {kn fo fr x2 x3 x5 x6 x7 : Int32} {a1 a2 a3 a4 a5 a6 : Nat → Int32} {c : Nat} (hK : zt_K c kn fo a1 a2 a3)
    (H : ∀ c kn fo fr b1 b2 b3 b4 b5 b6, zt_K c kn fo b1 b2 b3 → post (nI c, kn, fo, fr, b1, b2, b3, b4, b5, b6)) :
    wL_turn_97 post x2 x3 x5 x6 x7 (nI c) kn fo fr a1 a2 a3 a4 a5 a6 :=
  br_c (fun _ => br_c (fun _ => br_c (fun _ => zt_set hK (fun _ c kn fo fr b1 b2 b3 b4 b5 b6 h => H c kn fo fr b1 b2 b3 b4 b5 b6 h)) (fun _ => br_c (fun _ => zt_smooth hK (fun _ c kn fo fr b1 b2 b3 b4 b5 b6 h => H c kn fo fr b1 b2 b3 b4 b5 b6 h)) (fun _ => H _ _ _ _ _ _ _ _ _ _ hK))) (fun _ => zt_move hK (fun _ c kn fo fr b1 b2 b3 b4 b5 b6 h => H c kn fo fr b1 b2 b3 b4 b5 b6 h))) (fun _ => zt_set hK (fun _ c kn fo fr b1 b2 b3 b4 b5 b6 h => H c kn fo fr b1 b2 b3 b4 b5 b6 h))
theorem zt_t52 {post : St1 → Prop} {kn fo fr x2 x3 x5 z0 : Int32} {a1 a2 a3 a4 a5 a6 : Nat → Int32} {c : Nat} (hK : zt_K c kn fo a1 a2 a3)
    (H : ∀ c kn fo fr b1 b2 b3 b4 b5 b6, zt_K c kn fo b1 b2 b3 → post (nI c, kn, fo, fr, b1, b2, b3, b4, b5, b6)) :
    wL_turn_52 post x2 x3 x5 z0 (nI c) kn fo fr a1 a2 a3 a4 a5 a6 :=
  ⟨by decide, nm_e (br_c (fun _ => br_c (fun _ => br_c (fun _ => zt_drop hK (fun _ c kn fo fr b1 b2 b3 b4 b5 b6 h => H c kn fo fr b1 b2 b3 b4 b5 b6 h)) (fun _ => zt_t97 hK H)) (fun _ => zt_t97 hK H)) (fun _ => zt_point hK (fun _ c kn fo fr b1 b2 b3 b4 b5 b6 h => H c kn fo fr b1 b2 b3 b4 b5 b6 h)))⟩
theorem zt_turn {post : St1 → Prop} {kn fo fr p1 p2 : Int32} {a1 a2 a3 a4 a5 a6 : Nat → Int32} {c : Nat} (hK : zt_K c kn fo a1 a2 a3)
    (H : ∀ c kn fo fr b1 b2 b3 b4 b5 b6, zt_K c kn fo b1 b2 b3 → post (nI c, kn, fo, fr, b1, b2, b3, b4, b5, b6)) :
    wpL_turn post (nI c, kn, fo, fr, a1, a2, a3, a4, a5, a6) p1 p2 := by
  have hc := hK.1.1
  have t30 : ∀ x3 z, wL_turn_30 post p1 p2 x3 (nI c) z (nI c) kn fo fr a1 a2 a3 a4 a5 a6 := fun x3 z => pk_le 1 c (fun g => ⟨nI_ne0 (by omega) (by omega), zt_t52 hK H⟩) (fun _ => zt_t52 hK H)
  refine nm_e ?_
  exact pk_le 1 c (fun g => ⟨nI_ne0 (by omega) (by omega), t30 _ _⟩) (fun _ => t30 _ _)
end
section
/-! ===== the law ===== -/
theorem zt_cell {post : Int32 → Prop} {L : Nat} {xs : Nat → Int32} {p : Int32} {j : Nat} (hL : L ≤ 260) (hj : j ≤ 1000) (e : p = nI j) (H : ∀ x, post x) : wpL_cell post L xs () p := by
  subst e
  exact pk_le L j (fun _ => H 0) (fun z => ⟨pk_in j L z, H _⟩)
theorem i_vc (xs : Nat → Int32) (L : Nat) (hL : L ≤ 260) : wpL_law (fun r => r = 1) L xs := by
  refine ⟨6, 226, by omega, by omega, ?_⟩
  refine ⟨by omega, by omega, by omega, by omega, by omega, by omega, by omega, by omega, by omega, by omega, by omega, by omega, ?_⟩
  refine pk_loop (fun n i (s : Int32 × Nat × Int32 × Int32 × Int32 × (Nat → Int32) × (Nat → Int32) × (Nat → Int32) × (Nat → Int32) × (Nat → Int32) × (Nat → Int32)) => wL_law_12 (fun r => r = 1) L xs (1 + 6) (10 + 226) n s.1 (nI (2 * i)) (nI s.2.1) s.2.2.1 s.2.2.2.1 s.2.2.2.2.1 s.2.2.2.2.2.1 s.2.2.2.2.2.2.1 s.2.2.2.2.2.2.2.1 s.2.2.2.2.2.2.2.2.1 s.2.2.2.2.2.2.2.2.2.1 s.2.2.2.2.2.2.2.2.2.2)
    (fun i s => zt_K s.2.1 s.2.2.1 s.2.2.2.1 s.2.2.2.2.2.1 s.2.2.2.2.2.2.1 s.2.2.2.2.2.2.2.1) ((L + 1) / 2) 0 (0, 0, 0, 0, 0, fun _ => 0, fun _ => 0, fun _ => 0, fun _ => 0, fun _ => 0, fun _ => 0) (by omega) ?_ ?_ ?_
  · exact ⟨⟨by decide, fun i j hi => absurd hi (by decide +revert), fun i j hi => absurd hi (by decide +revert)⟩, Or.inl rfl⟩
  · intro n s h
    obtain ⟨lk, c, kn, fo, fr, a1, a2, a3, a4, a5, a6⟩ := s
    have hK : zt_K c kn fo a1 a2 a3 := h
    refine pk_le L (2 * ((L + 1) / 2)) (fun _ => ?_) (fun z => absurd z (by omega))
    refine zt_edgesL hK (fun f fr b2 b3 b4 b5 hE => br_f (by decide) ?_)
    exact zt_waysL hK.1 hE (br_f (by decide) rfl)
  · intro n i s hi h hw
    obtain ⟨lk, c, kn, fo, fr, a1, a2, a3, a4, a5, a6⟩ := s
    have hK : zt_K c kn fo a1 a2 a3 := h
    have e2 : nI (2 * i) + 2 = nI (2 * (i + 1)) := (nI_add (2 * i) 2).trans (congrArg nI (by omega))
    refine pk_le L (2 * i) (fun z => absurd z (by omega)) (fun _ => zt_cell (j := 2 * i) hL (by omega) rfl (fun x => zt_cell (j := 2 * i + 1) hL (by omega) (nI_1 _) (fun y => zt_turn hK (fun c kn fo fr b1 b2 b3 b4 b5 b6 hK2 => ?_))))
    refine br_c (fun _ => nm_e (br_c (fun _ => nm_r e2 (hw (lk + 1, c, kn, fo, fr, b1, b2, b3, b4, b5, b6) hK2)) (fun _ => ?_))) (fun _ => nm_r e2 (hw (lk, c, kn, fo, fr, b1, b2, b3, b4, b5, b6) hK2))
    refine zt_edgesL hK2 (fun f fr d2 d3 d4 d5 hE => br_f (by decide) ?_)
    exact zt_waysL hK2.1 hE (br_f (by decide) (nm_r e2 (hw (lk + 1, c, 1, nI f, fr, b1, d2, d3, d4, d5, b6) ⟨hK2.1, Or.inr ⟨rfl, f, rfl, hE⟩⟩)))
end
