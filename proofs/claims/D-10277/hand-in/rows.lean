section
/-! counting the tasks j < n with f j -/
def tp_b : Bool → Nat
  | true => 1
  | false => 0
def tp_cn (f : Nat → Bool) : Nat → Nat
  | 0 => 0
  | n + 1 => tp_cn f n + tp_b (f n)
theorem tp_b_mono {x y : Bool} (h : x = true → y = true) : tp_b x ≤ tp_b y := by
  revert h; cases x <;> cases y <;> decide
theorem tp_b_split {e f g : Bool} (h : e = true → f = true ∨ g = true) : tp_b e ≤ tp_b f + tp_b g := by
  revert h; cases e <;> cases f <;> cases g <;> decide
theorem tp_b_disj {e f g : Bool} (h : f = true → e = true ∧ g = false) (h2 : g = true → e = true) : tp_b f + tp_b g ≤ tp_b e := by
  revert h h2; cases e <;> cases f <;> cases g <;> decide
theorem tp_cn_s (f : Nat → Bool) (n : Nat) : tp_cn f (n + 1) = tp_cn f n + tp_b (f n) := rfl
theorem tp_cn_mono {f g : Nat → Bool} (n : Nat) (h : ∀ j, j < n → f j = true → g j = true) : tp_cn f n ≤ tp_cn g n := by
  induction n with
  | zero => exact Nat.le_refl 0
  | succ n ih =>
    have a := ih (fun j hj => h j (by omega))
    have b := tp_b_mono (h n (by omega))
    rw [tp_cn_s, tp_cn_s]
    omega
theorem tp_cn_split {e f g : Nat → Bool} (n : Nat) (h : ∀ j, j < n → e j = true → f j = true ∨ g j = true) : tp_cn e n ≤ tp_cn f n + tp_cn g n := by
  induction n with
  | zero => exact Nat.le_refl 0
  | succ n ih =>
    have a := ih (fun j hj => h j (by omega))
    have b := tp_b_split (h n (by omega))
    rw [tp_cn_s, tp_cn_s, tp_cn_s]
    omega
theorem tp_cn_disj {e f g : Nat → Bool} (n : Nat) (h : ∀ j, j < n → f j = true → e j = true ∧ g j = false) (h2 : ∀ j, j < n → g j = true → e j = true) : tp_cn f n + tp_cn g n ≤ tp_cn e n := by
  induction n with
  | zero => exact Nat.le_refl 0
  | succ n ih =>
    have a := ih (fun j hj => h j (by omega)) (fun j hj => h2 j (by omega))
    have b := tp_b_disj (h n (by omega)) (h2 n (by omega))
    rw [tp_cn_s, tp_cn_s, tp_cn_s]
    omega
theorem tp_cn_congr {f g : Nat → Bool} (n : Nat) (h : ∀ j, j < n → f j = g j) : tp_cn f n = tp_cn g n :=
  Nat.le_antisymm (tp_cn_mono n (fun j hj e => by rw [← h j hj]; exact e)) (tp_cn_mono n (fun j hj e => by rw [h j hj]; exact e))
theorem tp_cn_zero {f : Nat → Bool} (n : Nat) (h : ∀ j, j < n → f j = false) : tp_cn f n = 0 := by
  induction n with
  | zero => rfl
  | succ n ih =>
    rw [tp_cn_s, ih (fun j hj => h j (by omega)), h n (by omega)]
    rfl
theorem tp_cn_le (f : Nat → Bool) (n : Nat) : tp_cn f n ≤ n := by
  induction n with
  | zero => exact Nat.le_refl 0
  | succ n ih =>
    have b : tp_b (f n) ≤ 1 := by cases f n <;> decide
    rw [tp_cn_s]
    omega
theorem tp_cn_pos {f : Nat → Bool} {n j : Nat} (hj : j < n) (h : f j = true) : 1 ≤ tp_cn f n := by
  induction n with
  | zero => omega
  | succ n ih =>
    rw [tp_cn_s]
    rcases Nat.lt_or_ge j n with z | z
    · have := ih z
      omega
    · have e : j = n := by omega
      rw [← e, h]
      exact Nat.le_add_left 1 _
theorem tp_cn_ex {f : Nat → Bool} {n : Nat} (h : 1 ≤ tp_cn f n) : ∃ j, j < n ∧ f j = true := by
  induction n with
  | zero => exact absurd h (Nat.not_succ_le_zero 0)
  | succ n ih =>
    rw [tp_cn_s] at h
    cases e : f n with
    | true => exact ⟨n, by omega, e⟩
    | false =>
      rw [e] at h
      obtain ⟨j, hj, fj⟩ := ih h
      exact ⟨j, by omega, fj⟩
theorem tp_cn_one {b n : Nat} (hb : b < n) : tp_cn (fun j => decide (j = b)) n = 1 := by
  induction n with
  | zero => omega
  | succ n ih =>
    rw [tp_cn_s]
    rcases Nat.lt_or_ge b n with z | z
    · rw [ih z]
      have e : decide (n = b) = false := decide_eq_false (by omega)
      show 1 + tp_b (decide (n = b)) = 1
      rw [e]
      rfl
    · have e : b = n := by omega
      subst e
      rw [tp_cn_zero b (fun j hj => decide_eq_false (by omega))]
      show 0 + tp_b (decide (b = b)) = 1
      rw [decide_eq_true rfl]
      rfl
theorem tp_cn_two {f : Nat → Bool} {n i j : Nat} (hi : i < n) (hj : j < n) (hij : i ≠ j) (fi : f i = true) (fj : f j = true) : 2 ≤ tp_cn f n := by
  have h := tp_cn_disj (e := f) (f := fun k => decide (k = i)) (g := fun k => decide (k = j)) n
    (fun k _ e => by
      have e' : k = i := of_decide_eq_true e
      rw [e']
      exact ⟨fi, decide_eq_false hij⟩)
    (fun k _ e => by
      have e' : k = j := of_decide_eq_true e
      rw [e']
      exact fj)
  rw [tp_cn_one hi, tp_cn_one hj] at h
  exact h
theorem tp_cn_ins {f g : Nat → Bool} {n b : Nat} (hb : b < n) (fb : f b = false) (h : ∀ j, j < n → g j = (f j || decide (j = b))) : tp_cn g n = tp_cn f n + 1 := by
  have h1 := tp_cn_split (e := g) (f := f) (g := fun j => decide (j = b)) n (fun j hj e => by
    rw [h j hj, Bool.or_eq_true] at e
    exact e)
  have h2 := tp_cn_disj (e := g) (f := f) (g := fun j => decide (j = b)) n (fun j hj e => by
    refine ⟨by rw [h j hj, e]; rfl, decide_eq_false (fun z => ?_)⟩
    rw [z, fb] at e
    exact absurd e (by decide)) (fun j hj e => by
    rw [h j hj, Bool.or_eq_true]
    exact Or.inr e)
  rw [tp_cn_one hb] at h1 h2
  omega
theorem tp_cap {f : Nat → Bool} {s : Nat → Nat} {m : Nat} (h : ∀ t, tp_cn (fun j => f j && decide (s j = t)) 7 ≤ m) (a k : Nat) :
    tp_cn (fun j => f j && (decide (a ≤ s j) && decide (s j < a + k))) 7 ≤ m * k := by
  induction k with
  | zero =>
    rw [tp_cn_zero 7 (fun j _ => ?_)]
    · exact Nat.zero_le _
    · rw [Bool.and_eq_false_iff]
      right
      rw [Bool.and_eq_false_iff]
      rcases Nat.lt_or_ge (s j) a with z | z
      · left
        exact decide_eq_false (by omega)
      · right
        exact decide_eq_false (by omega)
  | succ k ih =>
    rw [Nat.mul_succ]
    refine Nat.le_trans (tp_cn_split (f := fun j => f j && (decide (a ≤ s j) && decide (s j < a + k))) (g := fun j => f j && decide (s j = a + k)) 7 (fun j _ e => ?_)) (Nat.add_le_add ih (h (a + k)))
    simp only [Bool.and_eq_true, decide_eq_true_eq] at e ⊢
    by_cases hs : s j < a + k
    · exact Or.inl ⟨e.1, e.2.1, hs⟩
    · exact Or.inr ⟨e.1, by omega⟩
theorem tp_full {f : Nat → Bool} {s : Nat → Nat} {m : Nat} (a k : Nat) (h : ∀ t, a ≤ t → t < a + k → m ≤ tp_cn (fun j => f j && decide (s j = t)) 7) :
    m * k ≤ tp_cn (fun j => f j && (decide (a ≤ s j) && decide (s j < a + k))) 7 := by
  induction k with
  | zero => exact Nat.zero_le _
  | succ k ih =>
    rw [Nat.mul_succ]
    refine Nat.le_trans (Nat.add_le_add (ih (fun t h1 h2 => h t h1 (by omega))) (h (a + k) (by omega) (by omega))) (tp_cn_disj 7 (fun j _ e => ?_) (fun j _ e => ?_))
    · simp only [Bool.and_eq_true, decide_eq_true_eq] at e ⊢
      refine ⟨⟨e.1, e.2.1, by omega⟩, ?_⟩
      rw [Bool.and_eq_false_iff]
      exact Or.inr (decide_eq_false (by omega))
    · simp only [Bool.and_eq_true, decide_eq_true_eq] at e ⊢
      exact ⟨e.1, by omega, by omega⟩
theorem tp_last (Q : Nat → Prop) (t : Nat) : (∀ s, s < t → Q s) ∨ ∃ s, s < t ∧ ¬ Q s ∧ ∀ r, s < r → r < t → Q r := by
  induction t with
  | zero => exact Or.inl (fun s h => absurd h (Nat.not_lt_zero s))
  | succ t ih =>
    by_cases q : Q t
    · rcases ih with a | ⟨s, hs, hn, hr⟩
      · left
        intro s h
        rcases Nat.lt_or_ge s t with z | z
        · exact a s z
        · have e : s = t := by omega
          rw [e]
          exact q
      · right
        refine ⟨s, by omega, hn, fun r h1 h2 => ?_⟩
        rcases Nat.lt_or_ge r t with z | z
        · exact hr r h1 z
        · have e : r = t := by omega
          rw [e]
          exact q
    · exact Or.inr ⟨t, by omega, q, fun r h1 h2 => absurd h2 (by omega)⟩
end
section
/-! timetables: m machines, P present, K links, dl deadlines -/
def tp_S (m : Nat) (P : Nat → Bool) (K : Nat → Nat → Bool) (dl τ : Nat → Nat) : Prop :=
  (∀ i, i < 7 → P i = true → τ i < dl i) ∧ (∀ i j, i < 7 → j < 7 → P i = true → P j = true → K i j = true → τ i < τ j) ∧
  (∀ s, tp_cn (fun j => P j && decide (τ j = s)) 7 ≤ m)
def tp_F (m : Nat) (P : Nat → Bool) (K : Nat → Nat → Bool) (dl : Nat → Nat) : Prop := ∃ τ, tp_S m P K dl τ
theorem tp_S_sub {m : Nat} {P P' : Nat → Bool} {K K' : Nat → Nat → Bool} {dl dl' τ : Nat → Nat} (hP : ∀ i, i < 7 → P' i = true → P i = true)
    (hK : ∀ i j, i < 7 → j < 7 → P' i = true → P' j = true → K' i j = true → K i j = true) (hd : ∀ i, i < 7 → P' i = true → dl i ≤ dl' i) (h : tp_S m P K dl τ) : tp_S m P' K' dl' τ := by
  obtain ⟨h1, h2, h3⟩ := h
  refine ⟨fun i hi p => Nat.lt_of_lt_of_le (h1 i hi (hP i hi p)) (hd i hi p), fun i j hi hj p q k => h2 i j hi hj (hP i hi p) (hP j hj q) (hK i j hi hj p q k), fun s => ?_⟩
  refine Nat.le_trans (tp_cn_mono 7 (fun j hj e => ?_)) (h3 s)
  simp only [Bool.and_eq_true, decide_eq_true_eq] at e ⊢
  exact ⟨hP j hj e.1, e.2⟩
theorem tp_F_sub {m : Nat} {P P' : Nat → Bool} {K K' : Nat → Nat → Bool} {dl dl' : Nat → Nat} (hP : ∀ i, i < 7 → P' i = true → P i = true)
    (hK : ∀ i j, i < 7 → j < 7 → P' i = true → P' j = true → K' i j = true → K i j = true) (hd : ∀ i, i < 7 → P' i = true → dl i ≤ dl' i) (h : tp_F m P K dl) : tp_F m P' K' dl' := by
  obtain ⟨τ, h⟩ := h
  exact ⟨τ, tp_S_sub hP hK hd h⟩
theorem tp_F_mono {m : Nat} {P : Nat → Bool} {K : Nat → Nat → Bool} {dl dl' : Nat → Nat} (hd : ∀ i, i < 7 → P i = true → dl i ≤ dl' i) (h : tp_F m P K dl) : tp_F m P K dl' :=
  tp_F_sub (fun _ _ p => p) (fun _ _ _ _ _ _ k => k) hd h
theorem tp_S_at {m : Nat} {P : Nat → Bool} {K : Nat → Nat → Bool} {dl dl' τ : Nat → Nat} (hd : ∀ i, i < 7 → P i = true → τ i < dl' i) (h : tp_S m P K dl τ) : tp_S m P K dl' τ := ⟨hd, h.2⟩
/-- another timetable that agrees on the present tasks -/
theorem tp_S_eq {m : Nat} {P : Nat → Bool} {K : Nat → Nat → Bool} {dl τ τ' : Nat → Nat} (he : ∀ i, i < 7 → P i = true → τ' i = τ i) (h : tp_S m P K dl τ) : tp_S m P K dl τ' := by
  obtain ⟨h1, h2, h3⟩ := h
  refine ⟨fun i hi p => by rw [he i hi p]; exact h1 i hi p, fun i j hi hj p q k => by rw [he i hi p, he j hj q]; exact h2 i j hi hj p q k, fun s => ?_⟩
  refine Nat.le_trans (tp_cn_mono 7 (fun j hj e => ?_)) (h3 s)
  simp only [Bool.and_eq_true, decide_eq_true_eq] at e ⊢
  exact ⟨e.1, by rw [← he j hj e.1]; exact e.2⟩
/-- how many slots c tasks take -/
def tp_sl (m c : Nat) : Nat := if m = 1 then c else (c + 1) / 2
theorem tp_sl_le {m c k : Nat} (hm : m = 1 ∨ m = 2) (h : c ≤ m * k) : tp_sl m c ≤ k := by
  unfold tp_sl
  rcases hm with rfl | rfl
  · rw [if_pos rfl]; omega
  · rw [if_neg (by decide)]; omega
theorem tp_sl_pos {m c : Nat} (hm : m = 1 ∨ m = 2) (h : 1 ≤ c) : 1 ≤ tp_sl m c := by
  unfold tp_sl
  rcases hm with rfl | rfl
  · rw [if_pos rfl]; omega
  · rw [if_neg (by decide)]; omega
theorem tp_sl_7 {m c : Nat} (hm : m = 1 ∨ m = 2) (h : c ≤ 7) : tp_sl m c ≤ 7 := tp_sl_le hm (by rcases hm with rfl | rfl <;> omega)
/-- what must come after i and by slot d has room -/
theorem tp_low {m : Nat} {P : Nat → Bool} {τ : Nat → Nat} {b : Nat → Bool} {dr : Nat → Nat} {i d : Nat} (hm : m = 1 ∨ m = 2)
    (hcap : ∀ s, tp_cn (fun j => P j && decide (τ j = s)) 7 ≤ m)
    (hb : ∀ j, j < 7 → b j = true → P j = true ∧ τ i < τ j ∧ τ j < dr j)
    (hc : 1 ≤ tp_cn (fun j => b j && decide (dr j ≤ d)) 7) :
    τ i + 1 + tp_sl m (tp_cn (fun j => b j && decide (dr j ≤ d)) 7) ≤ d := by
  have h1 : tp_cn (fun j => b j && decide (dr j ≤ d)) 7 ≤ tp_cn (fun j => P j && (decide (τ i + 1 ≤ τ j) && decide (τ j < (τ i + 1) + (d - (τ i + 1))))) 7 := by
    refine tp_cn_mono 7 (fun j hj e => ?_)
    simp only [Bool.and_eq_true, decide_eq_true_eq] at e ⊢
    obtain ⟨p, q, r⟩ := hb j hj e.1
    exact ⟨p, by omega, by omega⟩
  have h3 := Nat.le_trans h1 (tp_cap hcap (τ i + 1) (d - (τ i + 1)))
  have h4 := tp_sl_le hm h3
  have h5 : 1 ≤ d - (τ i + 1) := by
    rcases Nat.eq_zero_or_pos (d - (τ i + 1)) with z | z
    · rw [z, Nat.mul_zero] at h3
      omega
    · exact z
  omega
def tp_D (m : Nat) (b : Nat → Bool) (dr : Nat → Nat) (w : Nat) : Prop :=
  ∀ d, 1 ≤ d → d ≤ 8 → 1 ≤ tp_cn (fun j => b j && decide (dr j ≤ d)) 7 → w + tp_sl m (tp_cn (fun j => b j && decide (dr j ≤ d)) 7) ≤ d
/-- the state of a dispatch ahead of slot t: σ j = 100: still waiting -/
def tp_I (m : Nat) (P : Nat → Bool) (K : Nat → Nat → Bool) (dr : Nat → Nat) (t : Nat) (σ : Nat → Nat) : Prop :=
  (∀ j, j < 7 → P j = true → σ j < t ∨ σ j = 100) ∧
  (∀ j, j < 7 → P j = true → σ j < t → σ j < dr j) ∧
  (∀ i j, i < 7 → j < 7 → P i = true → P j = true → K i j = true → σ j < t → σ i < σ j) ∧
  (∀ s, s < t → tp_cn (fun j => P j && decide (σ j = s)) 7 ≤ m) ∧
  (∀ s, s < t → ∀ z, z < 7 → P z = true → s < σ z → (∃ p, p < 7 ∧ P p = true ∧ K p z = true ∧ s ≤ σ p) ∨
    (m ≤ tp_cn (fun j => P j && decide (σ j = s)) 7 ∧ ∀ j, j < 7 → P j = true → σ j = s → dr j ≤ dr z))
/-- Garey and Johnson: where a timetable is, no waiting task is ever late -/
theorem tp_gj {m t : Nat} {P : Nat → Bool} {K B : Nat → Nat → Bool} {dr τ σ : Nat → Nat} (hm : m = 1 ∨ m = 2)
    (hB : ∀ i j, i < 7 → j < 7 → P i = true → P j = true → K i j = true → B i j = true)
    (hT : ∀ i j k, i < 7 → j < 7 → k < 7 → B i j = true → B j k = true → B i k = true)
    (hD : ∀ i, i < 7 → P i = true → tp_D m (B i) dr (dr i)) (h8 : ∀ i, i < 7 → P i = true → dr i ≤ 8)
    (hτ : ∀ i, i < 7 → P i = true → τ i < dr i) (hcap : ∀ s, tp_cn (fun j => P j && decide (τ j = s)) 7 ≤ m)
    (ht : t ≤ 8) (hI : tp_I m P K dr t σ) : ∀ z, z < 7 → P z = true → σ z = 100 → t < dr z := by
  intro x hx px sx
  obtain ⟨i1, i2, i3, i4, i5⟩ := hI
  rcases Nat.lt_or_ge t (dr x) with hlt | hge
  · exact hlt
  exfalso
  have hD1 := hτ x hx px
  have hD8 := h8 x hx px
  have c1x : tp_cn (fun j => decide (j = x)) 7 = 1 := tp_cn_one hx
  rcases tp_last (fun s => m ≤ tp_cn (fun j => (P j && decide (dr j ≤ dr x)) && decide (σ j = s)) 7) t with hall | ⟨s, hs, hn, hr⟩
  · have f1 := tp_full (f := fun j => P j && decide (dr j ≤ dr x)) (s := σ) (m := m) 0 t (fun r _ h2 => hall r (by omega))
    have f2 : tp_cn (fun j => (P j && decide (dr j ≤ dr x)) && (decide (0 ≤ σ j) && decide (σ j < 0 + t))) 7 + tp_cn (fun j => decide (j = x)) 7 ≤ tp_cn (fun j => P j && (decide (0 ≤ τ j) && decide (τ j < 0 + dr x))) 7 := by
      refine tp_cn_disj 7 (fun j hj e => ?_) (fun j hj e => ?_)
      · simp only [Bool.and_eq_true, decide_eq_true_eq] at e ⊢
        have := hτ j hj e.1.1
        refine ⟨⟨e.1.1, by omega, by omega⟩, decide_eq_false (fun z => ?_)⟩
        rw [z] at e
        omega
      · have e' : j = x := of_decide_eq_true e
        simp only [Bool.and_eq_true, decide_eq_true_eq]
        rw [e']
        exact ⟨px, by omega, by omega⟩
    have f3 := tp_cap hcap 0 (dr x)
    have f5 : m * dr x ≤ m * t := Nat.mul_le_mul_left m hge
    omega
  · have chain : ∀ n j, j < 7 → P j = true → dr j ≤ n → dr j ≤ dr x → s < σ j → ∃ y, y < 7 ∧ P y = true ∧ σ y = s ∧ dr y ≤ dr x ∧ B y j = true := by
      intro n
      induction n with
      | zero =>
        intro j hj pj h0
        have := hτ j hj pj
        omega
      | succ n ih =>
        intro j hj pj h1 h2 h3
        rcases i5 s hs j hj pj h3 with ⟨p, hp, pp, kp, sp⟩ | ⟨hf, hl⟩
        · have bp := hB p j hp hj pp pj kp
          have c1 : 1 ≤ tp_cn (fun k => B p k && decide (dr k ≤ dr j)) 7 := tp_cn_pos hj (by
            show (B p j && decide (dr j ≤ dr j)) = true
            rw [bp, decide_eq_true (Nat.le_refl _)]
            rfl)
          have hj1 := hτ j hj pj
          have c2 := hD p hp pp (dr j) (by omega) (h8 j hj pj) c1
          have c3 := tp_sl_pos hm c1
          rcases Nat.eq_or_lt_of_le sp with e | e
          · exact ⟨p, hp, pp, e.symm, by omega, bp⟩
          · obtain ⟨y, hy, py, sy, dy, bb⟩ := ih p hp pp (by omega) (by omega) e
            exact ⟨y, hy, py, sy, dy, hT y p j hy hp hj bb bp⟩
        · refine absurd (Nat.le_trans hf (tp_cn_mono 7 (fun k hk e => ?_))) hn
          simp only [Bool.and_eq_true, decide_eq_true_eq] at e ⊢
          exact ⟨⟨e.1, Nat.le_trans (hl k hk e.1 e.2) h2⟩, e.2⟩
    have mem : ∀ y, P y = true → σ y = s → dr y ≤ dr x → ((P y && decide (dr y ≤ dr x)) && decide (σ y = s)) = true := by
      intro y py sy dy
      rw [py, decide_eq_true dy, decide_eq_true sy]
      rfl
    obtain ⟨y, hy, py, sy, dy, bxy⟩ := chain (dr x) x hx px (Nat.le_refl _) (Nat.le_refl _) (by omega)
    rcases hm with rfl | rfl
    · exact hn (tp_cn_pos (f := fun j => (P j && decide (dr j ≤ dr x)) && decide (σ j = s)) hy (mem y py sy dy))
    · have uniq : ∀ j, j < 7 → P j = true → dr j ≤ dr x → s < σ j → B y j = true := by
        intro j hj pj dj sj
        obtain ⟨v, hv, pv, sv, dv, bv⟩ := chain (dr j) j hj pj (Nat.le_refl _) dj sj
        by_cases e : v = y
        · rw [← e]
          exact bv
        · exact absurd (tp_cn_two (f := fun j => (P j && decide (dr j ≤ dr x)) && decide (σ j = s)) hv hy e (mem v pv sv dv) (mem y py sy dy)) hn
      have f1 := tp_full (f := fun j => P j && decide (dr j ≤ dr x)) (s := σ) (m := 2) (s + 1) (t - (s + 1)) (fun r h1 h2 => hr r (by omega) (by omega))
      have f2 : tp_cn (fun j => (P j && decide (dr j ≤ dr x)) && (decide (s + 1 ≤ σ j) && decide (σ j < s + 1 + (t - (s + 1))))) 7 + tp_cn (fun j => decide (j = x)) 7 ≤ tp_cn (fun j => B y j && decide (dr j ≤ dr x)) 7 := by
        refine tp_cn_disj 7 (fun j hj e => ?_) (fun j hj e => ?_)
        · simp only [Bool.and_eq_true, decide_eq_true_eq] at e ⊢
          refine ⟨⟨uniq j hj e.1.1 e.1.2 (by omega), e.1.2⟩, decide_eq_false (fun z => ?_)⟩
          rw [z] at e
          omega
        · have e' : j = x := of_decide_eq_true e
          simp only [Bool.and_eq_true, decide_eq_true_eq]
          rw [e']
          exact ⟨bxy, Nat.le_refl _⟩
      have f5 := hD y hy py (dr x) (by omega) hD8 (by omega)
      have f6 := i2 y hy py (by omega)
      unfold tp_sl at f5
      rw [if_neg (by decide)] at f5
      omega
/-! one slot of the dispatch -/
def tp_up (f : Nat → Nat) (k v : Nat) : Nat → Nat := fun j => if j = k then v else f j
theorem tp_up_s (f : Nat → Nat) (k v : Nat) : tp_up f k v k = v := if_pos rfl
theorem tp_up_n (f : Nat → Nat) {k j : Nat} (v : Nat) (h : j ≠ k) : tp_up f k v j = f j := if_neg h
def tp_R0 (P : Nat → Bool) (K : Nat → Nat → Bool) (σ : Nat → Nat) (z : Nat) : Prop := P z = true ∧ σ z = 100 ∧ ∀ p, p < 7 → P p = true → σ p = 100 → K p z = false
def tp_J (P : Nat → Bool) (K : Nat → Nat → Bool) (dr : Nat → Nat) (t : Nat) (σ0 σ : Nat → Nat) (c : Nat) (R W : Nat → Bool) : Prop :=
  (∀ j, j < 7 → P j = true → σ j = σ0 j ∨ (σ j = t ∧ tp_R0 P K σ0 j ∧ t < dr j)) ∧
  tp_cn (fun j => P j && decide (σ j = t)) 7 = c ∧
  (∀ z, z < 7 → (R z = true ↔ tp_R0 P K σ0 z ∧ σ z = 100)) ∧
  (∀ z, z < 7 → (W z = true ↔ P z = true ∧ σ z = 100)) ∧
  (∀ j z, j < 7 → z < 7 → P j = true → σ j = t → R z = true → dr j ≤ dr z)
theorem tp_I0 {m : Nat} {P : Nat → Bool} {K : Nat → Nat → Bool} {dr : Nat → Nat} : tp_I m P K dr 0 (fun _ => 100) :=
  ⟨fun _ _ _ => Or.inr rfl, fun _ _ _ h => absurd h (Nat.not_lt_zero _), fun _ _ _ _ _ _ _ h => absurd h (Nat.not_lt_zero _), fun _ h => absurd h (Nat.not_lt_zero _), fun _ h => absurd h (Nat.not_lt_zero _)⟩
theorem tp_J0 {m t : Nat} {P : Nat → Bool} {K : Nat → Nat → Bool} {dr σ : Nat → Nat} {R W : Nat → Bool} (ht : t ≤ 8) (h : tp_I m P K dr t σ)
    (hW : ∀ z, z < 7 → (W z = true ↔ P z = true ∧ σ z = 100)) (hR : ∀ z, z < 7 → (R z = true ↔ tp_R0 P K σ z)) : tp_J P K dr t σ σ 0 R W := by
  have nt : ∀ j, j < 7 → P j = true → σ j ≠ t := by
    intro j hj pj e
    rcases h.1 j hj pj with z | z <;> omega
  refine ⟨fun j _ _ => Or.inl rfl, tp_cn_zero 7 (fun j hj => ?_), fun z hz => ?_, hW, fun j z hj hz pj e => absurd e (nt j hj pj)⟩
  · cases pj : P j with
    | false => rfl
    | true =>
      rw [decide_eq_false (nt j hj pj)]
      rfl
  · rw [hR z hz]
    exact ⟨fun r => ⟨r, r.2.1⟩, fun r => r.1⟩
theorem tp_J1 {t c b : Nat} {P : Nat → Bool} {K : Nat → Nat → Bool} {dr σ0 σ : Nat → Nat} {R W R' W' : Nat → Bool} (ht : t ≤ 8) (h : tp_J P K dr t σ0 σ c R W)
    (hb : b < 7) (Rb : R b = true) (hmin : ∀ z, z < 7 → R z = true → dr b ≤ dr z) (hd : t < dr b)
    (hR : ∀ z, z < 7 → R' z = (R z && !decide (z = b))) (hW : ∀ z, z < 7 → W' z = (W z && !decide (z = b))) : tp_J P K dr t σ0 (tp_up σ b t) (c + 1) R' W' := by
  obtain ⟨h1, h2, h3, h4, h5⟩ := h
  obtain ⟨rb, sb⟩ := (h3 b hb).mp Rb
  refine ⟨fun j hj pj => ?_, ?_, fun z hz => ?_, fun z hz => ?_, fun j z hj hz pj e r => ?_⟩
  · by_cases e : j = b
    · rw [e, tp_up_s]
      exact Or.inr ⟨rfl, rb, hd⟩
    · rw [tp_up_n _ _ e]
      exact h1 j hj pj
  · rw [← h2]
    refine tp_cn_ins hb ?_ (fun j hj => ?_)
    · rw [sb, decide_eq_false (by omega)]
      exact Bool.and_false _
    · by_cases e : j = b
      · rw [e, tp_up_s, rb.1, decide_eq_true (rfl : t = t), decide_eq_true (rfl : b = b), Bool.or_true]
        rfl
      · rw [tp_up_n _ _ e, decide_eq_false e, Bool.or_false]
  · rw [hR z hz]
    by_cases e : z = b
    · rw [e, tp_up_s, decide_eq_true (rfl : b = b)]
      simp only [Bool.not_true, Bool.and_false]
      exact ⟨fun r => absurd r (by decide), fun r => absurd r.2 (by omega)⟩
    · rw [tp_up_n _ _ e, decide_eq_false e, Bool.not_false, Bool.and_true]
      exact h3 z hz
  · rw [hW z hz]
    by_cases e : z = b
    · rw [e, tp_up_s, decide_eq_true (rfl : b = b)]
      simp only [Bool.not_true, Bool.and_false]
      exact ⟨fun r => absurd r (by decide), fun r => absurd r.2 (by omega)⟩
    · rw [tp_up_n _ _ e, decide_eq_false e, Bool.not_false, Bool.and_true]
      exact h4 z hz
  · rw [hR z hz, Bool.and_eq_true] at r
    by_cases e2 : j = b
    · rw [e2]
      exact hmin z hz r.1
    · rw [tp_up_n _ _ e2] at e
      exact h5 j z hj hz pj e r.1
theorem tp_J2 {m t c : Nat} {P : Nat → Bool} {K : Nat → Nat → Bool} {dr σ0 σ : Nat → Nat} {R W : Nat → Bool} (ht : t ≤ 8) (hI : tp_I m P K dr t σ0) (h : tp_J P K dr t σ0 σ c R W)
    (hc : c ≤ m) (hx : c = m ∨ ∀ z, z < 7 → R z = false) : tp_I m P K dr (t + 1) σ := by
  obtain ⟨i1, i2, i3, i4, i5⟩ := hI
  obtain ⟨h1, h2, h3, h4, h5⟩ := h
  refine ⟨fun j hj pj => ?_, fun j hj pj sj => ?_, fun i j hi hj p q k sj => ?_, fun s hs => ?_, fun s hs z hz pz sz => ?_⟩
  · rcases h1 j hj pj with e | e
    · rcases i1 j hj pj with z | z
      · left; omega
      · right; omega
    · left; omega
  · rcases h1 j hj pj with e | e
    · have z : σ0 j < t := by rcases i1 j hj pj with z | z <;> omega
      rw [e]
      exact i2 j hj pj z
    · rw [e.1]
      exact e.2.2
  · rcases h1 j hj q with e | e
    · have z : σ0 j < t := by rcases i1 j hj q with z | z <;> omega
      have y := i3 i j hi hj p q k z
      rcases h1 i hi p with e2 | e2
      · omega
      · have := e2.2.1.2.1
        omega
    · have z : σ0 i < t := by
        rcases i1 i hi p with z | z
        · exact z
        · have := e.2.1.2.2 i hi p z
          rw [k] at this
          exact absurd this (by decide)
      rcases h1 i hi p with e2 | e2
      · omega
      · have := e2.2.1.2.1
        omega
  · rcases Nat.lt_or_ge s t with z | z
    · refine Nat.le_trans (tp_cn_mono 7 (fun j hj e => ?_)) (i4 s z)
      simp only [Bool.and_eq_true, decide_eq_true_eq] at e ⊢
      refine ⟨e.1, ?_⟩
      rcases h1 j hj e.1 with g | g <;> omega
    · have e : s = t := by omega
      rw [e, h2]
      exact hc
  · rcases Nat.lt_or_ge s t with y | y
    · have sz0 : s < σ0 z := by
        rcases h1 z hz pz with g | g
        · omega
        · have := g.2.1.2.1
          omega
      rcases i5 s y z hz pz sz0 with ⟨p, hp, pp, kp, sp⟩ | ⟨hf, hl⟩
      · refine Or.inl ⟨p, hp, pp, kp, ?_⟩
        rcases h1 p hp pp with g | g <;> omega
      · refine Or.inr ⟨Nat.le_trans hf (tp_cn_mono 7 (fun j hj e => ?_)), fun j hj pj sj => hl j hj pj ?_⟩
        · simp only [Bool.and_eq_true, decide_eq_true_eq] at e ⊢
          refine ⟨e.1, ?_⟩
          rcases h1 j hj e.1 with g | g
          · omega
          · have := g.2.1.2.1
            omega
        · rcases h1 j hj pj with g | g <;> omega
    · have e : s = t := by omega
      rw [e] at sz ⊢
      have sz0 : σ0 z = 100 ∧ σ z = 100 := by
        rcases h1 z hz pz with g | g
        · rcases i1 z hz pz with w | w <;> omega
        · omega
      by_cases r0 : tp_R0 P K σ0 z
      · have rz : R z = true := (h3 z hz).mpr ⟨r0, sz0.2⟩
        rcases hx with hx | hx
        · exact Or.inr ⟨by omega, fun j hj pj sj => h5 j z hj hz pj sj rz⟩
        · rw [hx z hz] at rz
          exact absurd rz (by decide)
      · left
        by_cases ex : ∃ p, p < 7 ∧ P p = true ∧ σ0 p = 100 ∧ K p z = true
        · obtain ⟨p, hp, pp, sp, kp⟩ := ex
          refine ⟨p, hp, pp, kp, ?_⟩
          rcases h1 p hp pp with g | g <;> omega
        · refine absurd ⟨pz, sz0.1, fun p hp pp sp => ?_⟩ r0
          cases kp : K p z with
          | false => rfl
          | true => exact absurd ⟨p, hp, pp, sp, kp⟩ ex
/-- all are placed: a timetable -/
theorem tp_done {m t : Nat} {P : Nat → Bool} {K : Nat → Nat → Bool} {dr dl σ : Nat → Nat} (h : tp_I m P K dr t σ) (hw : ∀ z, z < 7 → P z = true → σ z ≠ 100) (hd : ∀ i, i < 7 → P i = true → dr i ≤ dl i) : tp_S m P K dl σ := by
  obtain ⟨i1, i2, i3, i4, i5⟩ := h
  have lt : ∀ j, j < 7 → P j = true → σ j < t := by
    intro j hj pj
    rcases i1 j hj pj with z | z
    · exact z
    · exact absurd z (hw j hj pj)
  refine ⟨fun j hj pj => Nat.lt_of_lt_of_le (i2 j hj pj (lt j hj pj)) (hd j hj pj), fun i j hi hj p q k => i3 i j hi hj p q k (lt j hj q), fun s => ?_⟩
  rcases Nat.lt_or_ge s t with z | z
  · exact i4 s z
  · rw [tp_cn_zero 7 (fun j hj => ?_)]
    · exact Nat.zero_le _
    · cases pj : P j with
      | false => rfl
      | true =>
        have := lt j hj pj
        rw [decide_eq_false (by omega)]
        rfl
end
section
/-! the least d ≥ 1 with Q d; the vector that drawIn makes, task after task -/
noncomputable def tp_lv (Q : Nat → Prop) : Nat := Classical.epsilon (fun d => 1 ≤ d ∧ Q d ∧ ∀ e, 1 ≤ e → e < d → ¬ Q e)
theorem tp_lv_eq {Q : Nat → Prop} {d : Nat} (h1 : 1 ≤ d) (h2 : Q d) (h3 : ∀ e, 1 ≤ e → e < d → ¬ Q e) : tp_lv Q = d := by
  have h : 1 ≤ tp_lv Q ∧ Q (tp_lv Q) ∧ ∀ e, 1 ≤ e → e < tp_lv Q → ¬ Q e := Classical.epsilon_spec (p := fun d => 1 ≤ d ∧ Q d ∧ ∀ e, 1 ≤ e → e < d → ¬ Q e) ⟨d, h1, h2, h3⟩
  obtain ⟨g1, g2, g3⟩ := h
  rcases Nat.lt_trichotomy (tp_lv Q) d with z | z | z
  · exact absurd g2 (h3 _ g1 z)
  · exact z
  · exact absurd h2 (g3 _ h1 z)
theorem tp_lv_ok {Q : Nat → Prop} {d : Nat} (h1 : 1 ≤ d) (h2 : Q d) : 1 ≤ tp_lv Q ∧ Q (tp_lv Q) ∧ (∀ e, 1 ≤ e → e < tp_lv Q → ¬ Q e) ∧ tp_lv Q ≤ d := by
  obtain ⟨k, ⟨k1, k2⟩, k3⟩ := pk_least (fun k => 1 ≤ k ∧ Q k) ⟨d, h1, h2⟩
  have k4 : ∀ e, 1 ≤ e → e < k → ¬ Q e := fun e he hk q => k3 e hk ⟨he, q⟩
  rw [tp_lv_eq k1 k2 k4]
  refine ⟨k1, k2, k4, ?_⟩
  rcases Nat.lt_or_ge d k with z | z
  · exact absurd h2 (k4 d h1 z)
  · exact z
theorem tp_up_self (f : Nat → Nat) (k : Nat) : tp_up f k (f k) = f := by
  funext j
  by_cases e : j = k
  · rw [e, tp_up_s]
  · rw [tp_up_n _ _ e]
noncomputable def tp_gr (F : (Nat → Nat) → Prop) (P : Nat → Bool) (own : Nat → Nat) : Nat → Nat → Nat
  | 0 => own
  | i + 1 => if P i = true then tp_up (tp_gr F P own i) i (tp_lv (fun d => F (tp_up (tp_gr F P own i) i d))) else tp_gr F P own i
theorem tp_gr_t {F : (Nat → Nat) → Prop} {P : Nat → Bool} {own : Nat → Nat} {i : Nat} (h : P i = true) : tp_gr F P own (i + 1) = tp_up (tp_gr F P own i) i (tp_lv (fun d => F (tp_up (tp_gr F P own i) i d))) := by
  show (if P i = true then _ else _) = _
  rw [if_pos h]
theorem tp_gr_f {F : (Nat → Nat) → Prop} {P : Nat → Bool} {own : Nat → Nat} {i : Nat} (h : ¬ P i = true) : tp_gr F P own (i + 1) = tp_gr F P own i := by
  show (if P i = true then _ else _) = _
  rw [if_neg h]
theorem tp_gr_hi {F : (Nat → Nat) → Prop} {P : Nat → Bool} {own : Nat → Nat} (i : Nat) : ∀ k, i ≤ k → tp_gr F P own i k = own k := by
  induction i with
  | zero => exact fun k _ => rfl
  | succ i ih =>
    intro k hk
    by_cases h : P i = true
    · rw [tp_gr_t h, tp_up_n _ _ (by omega)]
      exact ih k (by omega)
    · rw [tp_gr_f h]
      exact ih k (by omega)
theorem tp_gr_st {F : (Nat → Nat) → Prop} {P : Nat → Bool} {own : Nat → Nat} {k : Nat} (i : Nat) : k < i → tp_gr F P own i k = tp_gr F P own (k + 1) k := by
  induction i with
  | zero => exact fun h => absurd h (Nat.not_lt_zero _)
  | succ i ih =>
    intro hk
    rcases Nat.lt_or_ge k i with z | z
    · rw [← ih z]
      by_cases h : P i = true
      · rw [tp_gr_t h, tp_up_n _ _ (by omega)]
      · rw [tp_gr_f h]
    · have e : k = i := by omega
      rw [e]
theorem tp_gr_none {F : (Nat → Nat) → Prop} {P : Nat → Bool} {own : Nat → Nat} (i : Nat) : (∀ j, j < i → P j = false) → tp_gr F P own i = own := by
  induction i with
  | zero => exact fun _ => rfl
  | succ i ih =>
    intro h
    rw [tp_gr_f (by rw [h i (by omega)]; decide)]
    exact ih (fun j hj => h j (by omega))
section
variable {m : Nat} {P : Nat → Bool} {K : Nat → Nat → Bool} {own : Nat → Nat}
theorem tp_gr_F (h : tp_F m P K own) (i : Nat) : i ≤ 7 → tp_F m P K (tp_gr (tp_F m P K) P own i) := by
  induction i with
  | zero => exact fun _ => h
  | succ i ih =>
    intro hi
    have f := ih (by omega)
    by_cases p : P i = true
    · rw [tp_gr_t p]
      have one : 1 ≤ tp_gr (tp_F m P K) P own i i := by
        obtain ⟨τ, s⟩ := f
        have := s.1 i (by omega) p
        omega
      exact (tp_lv_ok (Q := fun d => tp_F m P K (tp_up (tp_gr (tp_F m P K) P own i) i d)) one (by rw [tp_up_self]; exact f)).2.1
    · rw [tp_gr_f p]
      exact f
/-- the step at a present task i: the least one that leaves a timetable, at most what it was -/
theorem tp_gr_lv (h : tp_F m P K own) {i : Nat} (hi : i < 7) (p : P i = true) :
    1 ≤ tp_gr (tp_F m P K) P own (i + 1) i ∧ tp_gr (tp_F m P K) P own (i + 1) i ≤ tp_gr (tp_F m P K) P own i i ∧
    ∀ d, 1 ≤ d → d < tp_gr (tp_F m P K) P own (i + 1) i → ¬ tp_F m P K (tp_up (tp_gr (tp_F m P K) P own i) i d) := by
  have f := tp_gr_F h i (by omega)
  have one : 1 ≤ tp_gr (tp_F m P K) P own i i := by
    obtain ⟨τ, s⟩ := f
    have := s.1 i (by omega) p
    omega
  have l := tp_lv_ok (Q := fun d => tp_F m P K (tp_up (tp_gr (tp_F m P K) P own i) i d)) one (by rw [tp_up_self]; exact f)
  rw [tp_gr_t p, tp_up_s]
  exact ⟨l.1, l.2.2.2, l.2.2.1⟩
theorem tp_gr_s (h : tp_F m P K own) {i : Nat} (hi : i < 7) (k : Nat) : tp_gr (tp_F m P K) P own (i + 1) k ≤ tp_gr (tp_F m P K) P own i k := by
  by_cases p : P i = true
  · by_cases e : k = i
    · rw [e]
      exact (tp_gr_lv h hi p).2.1
    · rw [tp_gr_t p, tp_up_n _ _ e]
      exact Nat.le_refl _
  · rw [tp_gr_f p]
    exact Nat.le_refl _
theorem tp_gr_le (h : tp_F m P K own) {i : Nat} (k : Nat) (j : Nat) : i ≤ j → j ≤ 7 → tp_gr (tp_F m P K) P own j k ≤ tp_gr (tp_F m P K) P own i k := by
  induction j with
  | zero =>
    intro h1 _
    have e : i = 0 := by omega
    rw [e]
    exact Nat.le_refl _
  | succ j ih =>
    intro h1 h2
    rcases Nat.lt_or_ge i (j + 1) with z | z
    · exact Nat.le_trans (tp_gr_s h (by omega) k) (ih (by omega) (by omega))
    · have e : i = j + 1 := by omega
      rw [e]
      exact Nat.le_refl _
theorem tp_gr_own (h : tp_F m P K own) (k : Nat) {j : Nat} (hj : j ≤ 7) : tp_gr (tp_F m P K) P own j k ≤ own k := tp_gr_le h (i := 0) k j (Nat.zero_le _) hj
theorem tp_gr_1 (h : tp_F m P K own) {i : Nat} (hi : i < 7) (p : P i = true) : 1 ≤ tp_gr (tp_F m P K) P own 7 i := by
  rw [tp_gr_st 7 hi]
  exact (tp_gr_lv h hi p).1
/-- every timetable for the last vector sits just ahead of it: so that vector is one -/
theorem tp_gr_S (h : tp_F m P K own) : tp_S m P K own (fun j => tp_gr (tp_F m P K) P own 7 j - 1) := by
  obtain ⟨τ, s⟩ := tp_gr_F h 7 (Nat.le_refl _)
  refine tp_S_at (fun i hi p => ?_) (tp_S_eq (τ := τ) (fun i hi p => ?_) s)
  · have h1 := tp_gr_1 h hi p
    have h2 := tp_gr_own h i (Nat.le_refl 7)
    omega
  · have h1 := s.1 i hi p
    rcases Nat.lt_or_ge (τ i + 1) (tp_gr (tp_F m P K) P own 7 i) with z | z
    · rw [tp_gr_st 7 hi] at z
      refine absurd ⟨τ, tp_S_at (fun k hk q => ?_) s⟩ ((tp_gr_lv h hi p).2.2 (τ i + 1) (by omega) z)
      by_cases e : k = i
      · rw [e, tp_up_s]
        omega
      · rw [tp_up_n _ _ e]
        exact Nat.lt_of_lt_of_le (s.1 k hk q) (tp_gr_le h k 7 (by omega) (Nat.le_refl _))
    · omega
/-- one task alone drawn in -/
theorem tp_lv_S {τ : Nat → Nat} {i : Nat} (s : tp_S m P K own τ) : tp_lv (fun d => tp_F m P K (tp_up own i d)) ≤ τ i + 1 := by
  refine (tp_lv_ok (Q := fun d => tp_F m P K (tp_up own i d)) (d := τ i + 1) (by omega) ⟨τ, tp_S_at (fun k hk q => ?_) s⟩).2.2.2
  by_cases e : k = i
  · rw [e, tp_up_s]
    omega
  · rw [tp_up_n _ _ e]
    exact s.1 k hk q
theorem tp_gr_first {τ : Nat → Nat} {i : Nat} (s : tp_S m P K own τ) (hi : i < 7) (p : P i = true) (hn : ∀ j, j < i → P j = false) : tp_gr (tp_F m P K) P own 7 i - 1 ≤ τ i := by
  have h := tp_lv_S (i := i) s
  rw [tp_gr_st 7 hi, tp_gr_t p, tp_up_s, tp_gr_none i hn]
  omega
end
end
section
/-! masks of seven bits -/
theorem tp_bit0 : ∀ k, k < 8 → ∀ x, x < 128 → (((nI x >>> (nI k &&& 31)) &&& 1 = 0) ↔ x.testBit k = false) := by decide +kernel
theorem tp_bit1 : ∀ k, k < 8 → ∀ x, x < 128 → (((nI x >>> (nI k &&& 31)) &&& 1 = 1) ↔ x.testBit k = true) := by decide +kernel
theorem tp_by7 : ∀ x, x < 128 → (nI x).toInt8.toInt32 = nI x := by decide +kernel
theorem tp_nar {x : Nat} (h : x < 128) : vp_nar .byte (nI x) = nI x := by
  rw [vp_nar_byte]
  exact tp_by7 x h
theorem tp_shl : ∀ k, k < 8 → (1 : Int32) <<< (nI k &&& 31) = nI (2 ^ k) := by decide +kernel
def tp_cl (x k : Nat) : Nat := x &&& (127 ^^^ 2 ^ k)
theorem tp_clI : ∀ k, k < 7 → ∀ x, x < 128 → nI x &&& (((1 : Int32) <<< (nI k &&& 31)) ^^^ (-1)) = nI (tp_cl x k) := by decide +kernel
theorem tp_cl_lt {x : Nat} (k : Nat) (h : x < 128) : tp_cl x k < 128 := Nat.lt_of_le_of_lt Nat.and_le_left h
theorem tp_cl_b : ∀ k, k < 7 → ∀ j, j < 7 → ∀ x, x < 128 → (tp_cl x k).testBit j = (x.testBit j && !decide (j = k)) := by decide +kernel
theorem tp_or (a b : Nat) : nI a ||| nI b = nI (a ||| b) := by
  apply Int32.toBitVec_inj.1
  show BitVec.ofNat 32 a ||| BitVec.ofNat 32 b = BitVec.ofNat 32 (a ||| b)
  exact BitVec.ofNat_or.symm
theorem tp_andI (a b : Nat) : nI a &&& nI b = nI (a &&& b) := by
  apply Int32.toBitVec_inj.1
  show BitVec.ofNat 32 a &&& BitVec.ofNat 32 b = BitVec.ofNat 32 (a &&& b)
  exact BitVec.ofNat_and.symm
theorem tp_or_lt {a b : Nat} (ha : a < 128) (hb : b < 128) : a ||| b < 128 := Nat.or_lt_two_pow (n := 7) ha hb
theorem tp_orB {a b : Nat} (ha : a < 128) (hb : b < 128) : (nI a ||| nI b).toInt8.toInt32 = nI (a ||| b) := by
  rw [tp_or]
  exact tp_by7 _ (tp_or_lt ha hb)
theorem tp_pw_lt : ∀ k, k < 7 → 2 ^ k < 128 := by decide
theorem tp_pw_b : ∀ k, k < 7 → ∀ j, j < 7 → (2 ^ k).testBit j = decide (j = k) := by decide
theorem tp_set_b {k j x : Nat} (hk : k < 7) (hj : j < 7) : (x ||| 2 ^ k).testBit j = (x.testBit j || decide (j = k)) := by
  rw [Nat.testBit_or, tp_pw_b k hk j hj]
theorem tp_z : ∀ x, x < 128 → (∀ k, k < 7 → x.testBit k = false) → x = 0 := by decide +kernel
theorem tp_nz {x : Nat} (h : x < 128) (h0 : x ≠ 0) : ∃ k, k < 7 ∧ x.testBit k = true := by
  by_cases e : ∃ k, k < 7 ∧ x.testBit k = true
  · exact e
  · refine absurd (tp_z x h (fun k hk => ?_)) h0
    cases b : x.testBit k with
    | false => rfl
    | true => exact absurd ⟨k, hk, b⟩ e
theorem tp_b7 {x k : Nat} (h : x < 128) (hk : 7 ≤ k) : x.testBit k = false :=
  Nat.testBit_lt_two_pow (Nat.lt_of_lt_of_le h (Nat.pow_le_pow_right (n := 2) (by decide) hk))
theorem tp_and0 {a b : Nat} (ha : a < 128) : (nI a &&& nI b = 0) ↔ ∀ k, k < 7 → a.testBit k = true → b.testBit k = false := by
  have hl : a &&& b < 128 := Nat.lt_of_le_of_lt Nat.and_le_left ha
  rw [tp_andI, ← nI_0, nI_eq (by omega) (by omega)]
  constructor
  · intro e k _ t
    have h : (a &&& b).testBit k = false := by rw [e, Nat.zero_testBit]
    rw [Nat.testBit_and, t, Bool.true_and] at h
    exact h
  · intro e
    refine tp_z _ hl (fun k hk => ?_)
    rw [Nat.testBit_and]
    cases t : a.testBit k with
    | false => rfl
    | true => rw [e k hk t]; rfl
theorem tp_127 : ∀ k, k < 7 → (127 : Nat).testBit k = true := by decide
theorem tp_not {x h : Nat} (hx : x < 128) : nI x &&& (nI h ^^^ (-1)) = nI (x &&& (127 ^^^ h)) := by
  apply Int32.toBitVec_inj.1
  show BitVec.ofNat 32 x &&& (BitVec.ofNat 32 h ^^^ (-1 : Int32).toBitVec) = BitVec.ofNat 32 (x &&& (127 ^^^ h))
  apply BitVec.eq_of_getLsbD_eq
  intro i hi
  rw [BitVec.getLsbD_and, BitVec.getLsbD_xor, BitVec.getLsbD_ofNat, BitVec.getLsbD_ofNat, BitVec.getLsbD_ofNat, decide_eq_true hi, Bool.true_and, Bool.true_and, Bool.true_and, Nat.testBit_and, Nat.testBit_xor]
  rcases Nat.lt_or_ge i 7 with z | z
  · rw [tp_127 i z, (by decide +kernel : ∀ i, i < 7 → (-1 : Int32).toBitVec.getLsbD i = true) i z, Bool.xor_comm]
  · rw [tp_b7 hx z, Bool.false_and, Bool.false_and]
theorem tp_not_b {x h j : Nat} (hj : j < 7) : (x &&& (127 ^^^ h)).testBit j = (x.testBit j && !h.testBit j) := by
  rw [Nat.testBit_and, Nat.testBit_xor, tp_127 j hj, Bool.true_xor]
theorem tp_by {x : Int32} (h1 : -128 ≤ x.toInt) (h2 : x.toInt < 128) : x.toInt8.toInt32 = x := by
  apply Int32.toInt_inj.mp
  rw [Int8.toInt_toInt32, Int32.toInt_toInt8]
  exact Int.bmod_eq_of_le_mul_two (by omega) (by omega)
theorem tp_m1 {v : Nat} (h : 1 ≤ v) : nI v - 1 = nI (v - 1) := pk_sub (a := v) (b := 1) h
theorem tp_toNat {v : Int32} {q : Nat} (h1 : 1 ≤ v.toInt) (h2 : v.toInt ≤ q) (hq : q ≤ 8) : ∃ w : Nat, 1 ≤ w ∧ w ≤ q ∧ v = nI w ∧ v.toInt = (w : Int) := by
  refine ⟨v.toInt.toNat, by omega, by omega, ?_, by omega⟩
  apply Int32.toInt_inj.mp
  rw [nI_toInt (by omega)]
  omega
/-- a cell written: what the picture then holds -/
theorem tp_fill {f s : Nat → Int32} {i k : Nat} {x : Int32} (hk : k = i) (h : ∀ j, j < i → s j = f j) (hx : x = f i) : ∀ j, j < i + 1 → upd s k x j = f j := by
  intro j hj
  rw [hk]
  by_cases e : j = i
  · rw [e, pk_us, hx]
  · rw [pk_un e]
    exact h j (by omega)
theorem tp_put {A : Nat → Nat} {s : Nat → Int32} {i v b : Nat} (h : ∀ j, j < 7 → s j = nI (A j) ∧ A j < b) (hv : v < b) : ∀ j, j < 7 → upd s i (nI v) j = nI (tp_up A i v j) ∧ tp_up A i v j < b := by
  intro j hj
  by_cases e : j = i
  · rw [e, pk_us, tp_up_s]
    exact ⟨rfl, hv⟩
  · rw [pk_un e, tp_up_n _ _ e]
    exact h j hj
end
section
/-! the small methods -/
def tp_H (a : Nat → Int32) (A : Nat → Nat) (b : Nat) : Prop := ∀ j, j < 7 → a j = nI (A j) ∧ A j < b
section
variable {mh cp pr fk sk : Int32} {a1 a2 a3 a4 a5 a6 a7 : Nat → Int32}
theorem tp_holds {post : Int32 → Prop} {cap p i : Nat} (hp : p < 128) (hc : cap ≤ 7) (hi : i < 8) (hpc : ∀ j, j < 7 → p.testBit j = true → j < cap)
    (H1 : i < 7 → p.testBit i = true → post 1) (H0 : p.testBit i = false → post 0) : wpX_holds post (mh, nI cap, nI p, fk, sk, a1, a2, a3, a4, a5, a6, a7) (nI i) := by
  refine br_f (nI_pos (by omega)) (pk_le cap i (fun z => H0 ?_) (fun z => ?_))
  · cases b : p.testBit i with
    | false => rfl
    | true =>
      rcases Nat.lt_or_ge i 7 with y | y
      · have := hpc i y b
        omega
      · rw [tp_b7 hp y] at b
        exact absurd b (by decide)
  · exact ek_if (tp_bit0 i hi p hp) H0 (fun b => H1 (by omega) (by revert b; cases p.testBit i <;> decide))
theorem tp_ask {post : St1 → Prop} {D : Nat → Nat} {l : Nat} (hl : l ≤ 8) (hD : tp_H a1 D 9)
    (H : ∀ b4, tp_H b4 (fun j => min (D j) l) 9 → post (mh, cp, pr, fk, sk, a1, a2, a3, b4, a5, a6, a7)) : wpX_askOwn post (mh, cp, pr, fk, sk, a1, a2, a3, a4, a5, a6, a7) (nI l) := by
  refine pk_loop (fun n i s => wX_askOwn_2 post (nI l) mh cp pr fk sk n (nI i) a1 a2 a3 s a5 a6 a7) (fun i s => ∀ j, j < i → s j = nI (min (D j) l)) 7 0 a4 (by omega) (fun j hj => absurd hj (by omega)) ?_ ?_
  · intro n s h
    exact pk_le 7 7 (fun _ => H s (fun j hj => ⟨h j hj, by dsimp only; omega⟩)) (fun z => absurd z (by omega))
  · intro n i s hi h hw
    obtain ⟨e, d9⟩ := hD i hi
    refine pk_le 7 i (fun z => absurd z (by omega)) (fun _ => ⟨pk_in i 7 hi, ?_⟩)
    refine pk_le l (D i) (fun z => ⟨pk_in i 7 hi, nm_e (nm_r (nI_1 i) (hw _ (tp_fill (f := fun j => nI (min (D j) l)) (nI_clamp (by omega)) h ?_)))⟩) (fun z => ⟨pk_in i 7 hi, pk_in i 7 hi, nm_e (nm_r (nI_1 i) (hw _ (tp_fill (f := fun j => nI (min (D j) l)) (nI_clamp (by omega)) h ?_)))⟩) rfl (by rw [nI_clamp (by omega)]; exact e)
    · rw [tp_by7 l (by omega), show min (D i) l = l by omega]
    · rw [nI_clamp (by omega), e, tp_nar (by omega), show min (D i) l = D i by omega]
theorem tp_ready {post : Int32 → Prop} {w : Nat} {A : Nat → Nat} (hw : w < 128) (hA : tp_H a2 A 128)
    (H : ∀ r, r < 128 → (∀ z, z < 7 → (r.testBit z = true ↔ w.testBit z = true ∧ ∀ p, p < 7 → w.testBit p = true → (A p).testBit z = false)) → post (nI r)) :
    wpX_readyIn post (mh, cp, pr, fk, sk, a1, a2, a3, a4, a5, a6, a7) (nI w) := by
  refine pk_loop (fun n i (s : Int32) => wX_readyIn_4 post (nI w) mh cp pr fk sk a1 a2 a3 a4 a5 a6 a7 n s (nI i))
    (fun i s => ∃ h, h < 128 ∧ s = nI h ∧ ∀ z, z < 7 → (h.testBit z = true ↔ ∃ p, p < i ∧ w.testBit p = true ∧ (A p).testBit z = true)) 7 0 0 (by omega) ?_ ?_ ?_
  · refine ⟨0, by omega, rfl, fun z _ => ?_⟩
    rw [Nat.zero_testBit]
    exact ⟨fun e => absurd e (by decide), fun ⟨p, hp, _⟩ => absurd hp (by omega)⟩
  · rintro n s ⟨h, hh, rfl, hz⟩
    refine pk_le 7 7 (fun _ => ?_) (fun z => absurd z (by omega))
    rw [tp_not hw]
    refine H _ (Nat.lt_of_le_of_lt Nat.and_le_left hw) (fun z hz7 => ?_)
    rw [tp_not_b hz7, Bool.and_eq_true]
    refine and_congr_right (fun _ => ⟨fun e p hp wp => ?_, fun e => ?_⟩)
    · cases b : (A p).testBit z with
      | false => rfl
      | true =>
        rw [(hz z hz7).mpr ⟨p, hp, wp, b⟩] at e
        exact absurd e (by decide)
    · cases b : h.testBit z with
      | false => rfl
      | true =>
        obtain ⟨p, hp, wp, ap⟩ := (hz z hz7).mp b
        rw [e p hp wp] at ap
        exact absurd ap (by decide)
  · rintro n i s hi ⟨h, hh, rfl, hz⟩ hk
    obtain ⟨e, a128⟩ := hA i hi
    refine pk_le 7 i (fun z => absurd z (by omega)) (fun _ => ek_if (tp_bit0 i (by omega) w hw) (fun b => nm_r (nI_1 i) (hk _ ⟨h, hh, rfl, fun z hz7 => ?_⟩)) (fun b => ⟨pk_in i 7 hi, nm_r (e' := nI (h ||| A i)) ?_ (nm_r (nI_1 i) (hk _ ⟨h ||| A i, tp_or_lt hh a128, rfl, fun z hz7 => ?_⟩))⟩))
    · rw [hz z hz7]
      constructor
      · rintro ⟨p, hp, r⟩
        exact ⟨p, by omega, r⟩
      · rintro ⟨p, hp, r⟩
        refine ⟨p, ?_, r⟩
        rcases Nat.lt_or_ge p i with y | y
        · exact y
        · have ep : p = i := by omega
          rw [ep, b] at r
          exact absurd r.1 (by decide)
    · rw [nI_clamp (by omega), e, tp_or]
    · rw [Nat.testBit_or, Bool.or_eq_true, hz z hz7]
      constructor
      · rintro (⟨p, hp, r⟩ | r)
        · exact ⟨p, by omega, r⟩
        · exact ⟨i, by omega, by revert b; cases w.testBit i <;> decide, r⟩
      · rintro ⟨p, hp, r⟩
        rcases Nat.lt_or_ge p i with y | y
        · exact Or.inl ⟨p, y, r⟩
        · have ep : p = i := by omega
          rw [ep] at r
          exact Or.inr r.2
theorem tp_urgent {post : Int32 → Prop} {r : Nat} {dr : Nat → Nat} (hr : r < 128) (hd : tp_H a5 dr 9) (hne : ∃ z, z < 7 ∧ r.testBit z = true)
    (H : ∀ b, b < 7 → r.testBit b = true → (∀ z, z < 7 → r.testBit z = true → dr b ≤ dr z) → post (nI b)) :
    wpX_mostUrgent post (mh, cp, pr, fk, sk, a1, a2, a3, a4, a5, a6, a7) (nI r) := by
  refine pk_loop (fun n i (s : Int32) => wX_mostUrgent_4 post (nI r) mh cp pr fk sk a1 a2 a3 a4 a5 a6 a7 n s (nI i))
    (fun i s => (s = -1 ∧ ∀ z, z < i → r.testBit z = false) ∨ ∃ b, b < i ∧ s = nI b ∧ r.testBit b = true ∧ ∀ z, z < i → r.testBit z = true → dr b ≤ dr z) 7 0 (-1) (by omega) (Or.inl ⟨rfl, fun z h => absurd h (by omega)⟩) ?_ ?_
  · rintro n s (⟨rfl, h⟩ | ⟨b, hb, rfl, rb, h⟩)
    · obtain ⟨z, hz, rz⟩ := hne
      rw [h z hz] at rz
      exact absurd rz (by decide)
    · exact pk_le 7 7 (fun _ => H b hb rb h) (fun z => absurd z (by omega))
  · intro n i s hi h hk
    obtain ⟨e, d9⟩ := hd i hi
    refine pk_le 7 i (fun z => absurd z (by omega)) (fun _ => ek_if (tp_bit0 i (by omega) r hr) (fun b => nm_r (nI_1 i) (hk _ ?_)) (fun b => ?_))
    · rcases h with ⟨es, h⟩ | ⟨c, hc, es, rc, h⟩
      · exact Or.inl ⟨es, lt_s h b⟩
      · exact Or.inr ⟨c, by omega, es, rc, lt_s h (fun t => by rw [b] at t; exact absurd t (by decide))⟩
    · have ri : r.testBit i = true := by revert b; cases r.testBit i <;> decide
      rcases h with ⟨es, h⟩ | ⟨c, hc, es, rc, h⟩
      · subst es
        refine br_t (by decide) (nm_r (nI_1 i) (hk _ (Or.inr ⟨i, by omega, rfl, ri, lt_s (fun z hz t => ?_) (fun _ => Nat.le_refl _)⟩)))
        rw [h z hz] at t
        exact absurd t (by decide)
      · subst es
        obtain ⟨ec, c9⟩ := hd c (by omega)
        refine br_f (nI_pos (by omega)) ⟨pk_in i 7 hi, pk_in c 7 (by omega), pk_le (dr c) (dr i) (fun z => nm_r (nI_1 i) (hk _ (Or.inr ⟨c, by omega, rfl, rc, lt_s h (fun _ => z)⟩))) (fun z => nm_r (nI_1 i) (hk _ (Or.inr ⟨i, by omega, rfl, ri, lt_s (fun y hy t => ?_) (fun _ => Nat.le_refl _)⟩))) (by rw [nI_clamp (by omega)]; exact ec) (by rw [nI_clamp (by omega)]; exact e)⟩
        have := h y hy t
        omega
theorem tp_wof {post : Int32 → Prop} {o : Nat} {B : Nat → Nat} (ho : o < 128) (hB : tp_H a3 B 128)
    (H : ∀ i, i < 7 → ((o.testBit i = true ∧ ∀ j, j < 7 → (B i).testBit j = true → o.testBit j = false) ∨ (∀ k, k < 7 → o.testBit k = true → ∃ j, j < 7 ∧ (B k).testBit j = true ∧ o.testBit j = true)) → post (nI i)) :
    wpX_withoutFollowersIn post (mh, cp, pr, fk, sk, a1, a2, a3, a4, a5, a6, a7) (nI o) := by
  refine pk_loop (σ := Unit) (fun n i _ => wX_withoutFollowersIn_2 post (nI o) mh cp pr fk sk a1 a2 a3 a4 a5 a6 a7 n (nI i))
    (fun i _ => ∀ k, k < i → o.testBit k = true → ∃ j, j < 7 ∧ (B k).testBit j = true ∧ o.testBit j = true) 7 0 () (by omega) (fun k h => absurd h (by omega)) ?_ ?_
  · intro n _ h
    exact pk_le 7 7 (fun _ => H 0 (by omega) (Or.inr h)) (fun z => absurd z (by omega))
  · intro n i _ hi h hk
    obtain ⟨e, b128⟩ := hB i hi
    refine pk_le 7 i (fun z => absurd z (by omega)) (fun _ => ek_if (tp_bit0 i (by omega) o ho) (fun b => nm_r (nI_1 i) (hk () (lt_s h (fun t => ?_)))) (fun b => ⟨pk_in i 7 hi, ?_⟩))
    · rw [b] at t
      exact absurd t (by decide)
    · have oi : o.testBit i = true := by revert b; cases o.testBit i <;> decide
      rw [nI_clamp (show i < 2 ^ 31 by omega), e]
      refine ek_if (tp_and0 b128) (fun g => H i hi (Or.inl ⟨oi, g⟩)) (fun g => nm_r (nI_1 i) (hk () (lt_s h (fun _ => ?_))))
      by_cases ex : ∃ j, j < 7 ∧ (B i).testBit j = true ∧ o.testBit j = true
      · exact ex
      · refine absurd (fun j hj bj => ?_) g
        cases oj : o.testBit j with
        | false => rfl
        | true => exact absurd ⟨j, hj, bj, oj⟩ ex
theorem tp_folw {post : Int32 → Prop} {i d Bi : Nat} {dr : Nat → Nat} (hi : i < 7) (hd8 : d ≤ 8) (hB : a3 i = nI Bi) (hB2 : Bi < 128) (hdr : tp_H a5 dr 9)
    (H : post (nI (tp_cn (fun j => Bi.testBit j && decide (dr j ≤ d)) 7))) :
    wpX_followersBy post (mh, cp, pr, fk, sk, a1, a2, a3, a4, a5, a6, a7) (nI i) (nI d) := by
  refine pk_loop (fun n k (s : Int32) => wX_followersBy_5 post (nI i) (nI d) mh cp pr fk sk a1 a2 a3 a4 a5 a6 a7 n s (nI k))
    (fun k s => s = nI (tp_cn (fun j => Bi.testBit j && decide (dr j ≤ d)) k)) 7 0 0 (by omega) rfl ?_ ?_
  · rintro n s rfl
    exact pk_le 7 7 (fun _ => H) (fun z => absurd z (by omega))
  · rintro n k s hk7 rfl hk
    obtain ⟨e, d9⟩ := hdr k hk7
    refine pk_le 7 k (fun z => absurd z (by omega)) (fun _ => ⟨pk_in i 7 hi, ?_⟩)
    rw [nI_clamp (show i < 2 ^ 31 by omega), hB]
    refine ek_if (tp_bit0 k (by omega) Bi hB2) (fun b => nm_r (nI_1 k) (hk _ ?_)) (fun b => ⟨pk_in k 7 hk7, pk_lt d (dr k) (fun z => nm_r (nI_1 k) (hk _ ?_)) (fun z => nm_r (nI_1 _) (nm_r (nI_1 k) (hk _ ?_))) rfl (by rw [nI_clamp (by omega)]; exact e)⟩)
    · rw [tp_cn_s]
      rw [b]
      rfl
    · rw [tp_cn_s]
      rw [decide_eq_false (by omega), Bool.and_false]
      rfl
    · have bi : Bi.testBit k = true := by revert b; cases Bi.testBit k <;> decide
      rw [tp_cn_s]
      rw [decide_eq_true z, bi]
      rfl
end
end
section
/-! dispatch: true just where X -/
section
variable {cp fk sk : Int32} {a1 a2 a3 a4 a5 a6 a7 : Nat → Int32}
theorem tp_disp {post : Int32 → Prop} {m p : Nat} {A dr : Nat → Nat} {X : Prop} (hm : m = 1 ∨ m = 2) (hp : p < 128) (hA : tp_H a2 A 128) (hdr : tp_H a5 dr 9)
    (hX : X → ∀ t σ, t ≤ 8 → tp_I m p.testBit (fun i j => (A i).testBit j) dr t σ → ∀ z, z < 7 → p.testBit z = true → σ z = 100 → t < dr z)
    (hS : ∀ t σ, tp_I m p.testBit (fun i j => (A i).testBit j) dr t σ → (∀ z, z < 7 → p.testBit z = true → σ z ≠ 100) → X)
    (H1 : X → post 1) (H0 : ¬ X → post 0) : wpX_dispatch post (nI m, cp, nI p, fk, sk, a1, a2, a3, a4, a5, a6, a7) := by
  have zero : ∀ t w σ, t ≤ 8 → w < 128 → (t = 8 ∨ w = 0) → tp_I m p.testBit (fun i j => (A i).testBit j) dr t σ → (∀ z, z < 7 → (w.testBit z = true ↔ p.testBit z = true ∧ σ z = 100)) →
      wX_dispatch_89 post (nI w) (nI m) cp (nI p) fk sk a1 a2 a3 a4 a5 a6 a7 := by
    intro t w σ ht hw h8 hI hz
    refine pk_eq w 0 (fun e => H1 (hS t σ hI (fun z hz7 pz s => ?_))) (fun e => H0 (fun x => ?_))
    · have := (hz z hz7).mpr ⟨pz, s⟩
      rw [e, Nat.zero_testBit] at this
      exact absurd this (by decide)
    · obtain ⟨z, hz7, wz⟩ := tp_nz hw e
      obtain ⟨pz, s⟩ := (hz z hz7).mp wz
      have h1 := hX x t σ ht hI z hz7 pz s
      have h2 := (hdr z hz7).2
      omega
  refine pk_loop (fun n t (s : Int32) => wX_dispatch_7 post (nI m) cp (nI p) fk sk a1 a2 a3 a4 a5 a6 a7 n s (nI t))
    (fun t s => ∃ w σ, w < 128 ∧ s = nI w ∧ tp_I m p.testBit (fun i j => (A i).testBit j) dr t σ ∧ (∀ z, z < 7 → (w.testBit z = true ↔ p.testBit z = true ∧ σ z = 100))) 8 0 (nI p) (by omega) ?_ ?_ ?_
  · exact ⟨p, fun _ => 100, hp, rfl, tp_I0, fun z _ => ⟨fun e => ⟨e, rfl⟩, fun e => e.1⟩⟩
  · rintro n s ⟨w, σ, hw, rfl, hI, hz⟩
    exact pk_le 8 8 (fun _ => zero 8 w σ (by omega) hw (Or.inl rfl) hI hz) (fun z => absurd z (by omega))
  · rintro n t s ht ⟨w, σ, hw, rfl, hI, hz⟩ hk
    refine pk_le 8 t (fun z => absurd z (by omega)) (fun _ => pk_eq w 0 (fun e => zero t w σ (by omega) hw (Or.inr e) hI hz) (fun e => tp_ready hw hA (fun r hr hrz => ?_)))
    have hR : ∀ z, z < 7 → (r.testBit z = true ↔ tp_R0 p.testBit (fun i j => (A i).testBit j) σ z) := by
      intro z hz7
      rw [hrz z hz7, hz z hz7]
      constructor
      · rintro ⟨⟨pz, sz⟩, h⟩
        exact ⟨pz, sz, fun q hq pq sq => h q hq ((hz q hq).mpr ⟨pq, sq⟩)⟩
      · rintro ⟨pz, sz, h⟩
        exact ⟨⟨pz, sz⟩, fun q hq wq => h q hq ((hz q hq).mp wq).1 ((hz q hq).mp wq).2⟩
    have next : ∀ c w' r' σ', w' < 128 → c ≤ m → (c = m ∨ r' = 0) → tp_J p.testBit (fun i j => (A i).testBit j) dr t σ σ' c r'.testBit w'.testBit →
        wX_dispatch_7 post (nI m) cp (nI p) fk sk a1 a2 a3 a4 a5 a6 a7 n (nI w') (nI (t + 1)) := by
      intro c w' r' σ' hw' hc hx hJ
      refine hk _ ⟨w', σ', hw', rfl, tp_J2 (by omega) hI hJ hc ?_, hJ.2.2.2.1⟩
      rcases hx with hx | hx
      · exact Or.inl hx
      · refine Or.inr (fun z _ => ?_)
        rw [hx, Nat.zero_testBit]
    refine Exists.elim (pk_loop (fun n' c (s : Int32 × Int32) => wX_dispatch_26 post (wX_dispatch_7 post (nI m) cp (nI p) fk sk a1 a2 a3 a4 a5 a6 a7 n) (nI t) (nI m) cp (nI p) fk sk a1 a2 a3 a4 a5 a6 a7 n' s.1 s.2 (nI c))
      (fun c s => ∃ w' r' σ', w' < 128 ∧ r' < 128 ∧ s = (nI w', nI r') ∧ tp_J p.testBit (fun i j => (A i).testBit j) dr t σ σ' c r'.testBit w'.testBit) m 0 (nI w, nI r) (by omega) ?_ ?_ ?_) (fun n' h => ⟨n', h⟩)
    · exact ⟨w, r, σ, hw, hr, rfl, tp_J0 (by omega) hI hz hR⟩
    · rintro n' s ⟨w', r', σ', hw', hr', rfl, hJ⟩
      exact pk_le m m (fun _ => nm_r (nI_1 t) (next m w' r' σ' hw' (Nat.le_refl _) (Or.inl rfl) hJ)) (fun z => absurd z (by omega))
    · rintro n' c s hc ⟨w', r', σ', hw', hr', rfl, hJ⟩ hk'
      refine pk_le m c (fun z => absurd z (by omega)) (fun _ => pk_eq r' 0 (fun e => nm_r (nI_1 t) (next c w' r' σ' hw' (by omega) (Or.inr e) hJ)) (fun e => tp_urgent hr' hdr (tp_nz hr' e) (fun b hb rb hmin => ⟨pk_in b 7 hb, ?_⟩)))
      have d9 := (hdr b hb).2
      refine pk_lt t (dr b) (fun h => nm_r (tp_clI b hb r' hr') (nm_r (tp_clI b hb w' hw') (nm_r (nI_1 c) (hk' (nI (tp_cl w' b), nI (tp_cl r' b)) ⟨tp_cl w' b, tp_cl r' b, tp_up σ' b t, tp_cl_lt b hw', tp_cl_lt b hr', rfl, tp_J1 (by omega) hJ hb rb hmin h (fun z hz7 => tp_cl_b b hb z hz7 r' hr') (fun z hz7 => tp_cl_b b hb z hz7 w' hw')⟩)))) (fun h => H0 (fun x => ?_)) rfl (by rw [nI_clamp (by omega)]; exact (hdr b hb).1)
      have r0 := ((hJ.2.2.1 b hb).mp rb).1
      have := hX x t σ (by omega) hI b hb r0.1 r0.2.1
      omega
end
end
section
/-! links and all that they lead to -/
def tp_W (A B : Nat → Nat) (k : Nat) : Prop :=
  (∀ i j, i < 7 → j < 7 → (A i).testBit j = true → (B i).testBit j = true) ∧
  (∀ i l j, i < 7 → l < 7 → j < 7 → l < k → (B i).testBit l = true → (B l).testBit j = true → (B i).testBit j = true) ∧
  (∀ R : Nat → Nat → Prop, (∀ i l j, R i l → R l j → R i j) → (∀ i j, i < 7 → j < 7 → (A i).testBit j = true → R i j) → ∀ i j, i < 7 → j < 7 → (B i).testBit j = true → R i j)
def tp_wr (B : Nat → Nat) (k n j : Nat) : Nat := if (decide (j < n) && (B j).testBit k) = true then B j ||| B k else B j
theorem tp_wr_hi {B : Nat → Nat} {k n j : Nat} (h : n ≤ j) : tp_wr B k n j = B j := by
  unfold tp_wr
  rw [decide_eq_false (by omega), Bool.false_and, if_neg (by decide)]
theorem tp_wr_k {B : Nat → Nat} {k n : Nat} : tp_wr B k n k = B k := by
  unfold tp_wr
  split
  · exact Nat.or_self _
  · rfl
theorem tp_wr_ne {B : Nat → Nat} {k n j : Nat} (h : j ≠ n) : tp_wr B k (n + 1) j = tp_wr B k n j := by
  unfold tp_wr
  rcases Nat.lt_or_ge j n with z | z
  · rw [decide_eq_true z, decide_eq_true (by omega)]
  · rw [decide_eq_false (by omega), decide_eq_false (by omega)]
theorem tp_wr_t {B : Nat → Nat} {k n : Nat} (h : (B n).testBit k = true) : tp_wr B k (n + 1) n = B n ||| B k := by
  unfold tp_wr
  rw [decide_eq_true (Nat.lt_succ_self n), h, Bool.true_and, if_pos rfl]
theorem tp_wr_f {B : Nat → Nat} {k n : Nat} (h : (B n).testBit k = false) : tp_wr B k (n + 1) n = B n := by
  unfold tp_wr
  rw [h, Bool.and_false, if_neg (by decide)]
theorem tp_wr_lt {B : Nat → Nat} {k n : Nat} (hk : k < 7) (h : ∀ j, j < 7 → B j < 128) : ∀ j, j < 7 → tp_wr B k n j < 128 := by
  intro j hj
  unfold tp_wr
  split
  · exact tp_or_lt (h j hj) (h k hk)
  · exact h j hj
theorem tp_wr_b {B : Nat → Nat} {k i j : Nat} (hi : i < 7) : (tp_wr B k 7 i).testBit j = true ↔ (B i).testBit j = true ∨ ((B i).testBit k = true ∧ (B k).testBit j = true) := by
  unfold tp_wr
  rw [decide_eq_true hi, Bool.true_and]
  split
  · rename_i h
    rw [Nat.testBit_or, Bool.or_eq_true]
    exact ⟨fun e => e.imp id (fun z => ⟨h, z⟩), fun e => e.imp id (fun z => z.2)⟩
  · rename_i h
    exact ⟨Or.inl, fun e => e.elim id (fun z => absurd z.1 h)⟩
theorem tp_W0 (A : Nat → Nat) : tp_W A A 0 := ⟨fun _ _ _ _ h => h, fun _ _ _ _ _ _ h => absurd h (Nat.not_lt_zero _), fun _ _ h => h⟩
theorem tp_Ws {A B : Nat → Nat} {k : Nat} (hk : k < 7) (h : tp_W A B k) : tp_W A (tp_wr B k 7) (k + 1) := by
  obtain ⟨h1, h2, h3⟩ := h
  refine ⟨fun i j hi hj a => (tp_wr_b hi).mpr (Or.inl (h1 i j hi hj a)), fun i l j hi hl hj hlk bl bj => ?_, fun R hT hA i j hi hj b => ?_⟩
  · rw [tp_wr_b hi] at bl ⊢
    rw [tp_wr_b hl] at bj
    rcases Nat.lt_or_ge l k with z | z
    · rcases bl with bl | ⟨bk, bl⟩
      · rcases bj with bj | ⟨bk, bj⟩
        · exact Or.inl (h2 i l j hi hl hj z bl bj)
        · exact Or.inr ⟨h2 i l k hi hl hk z bl bk, bj⟩
      · rcases bj with bj | ⟨_, bj⟩
        · exact Or.inr ⟨bk, h2 k l j hk hl hj z bl bj⟩
        · exact Or.inr ⟨bk, bj⟩
    · have e : l = k := by omega
      rw [e] at bl bj
      have bk : (B i).testBit k = true := by
        rcases bl with bl | bl
        · exact bl
        · exact bl.1
      rcases bj with bj | bj
      · exact Or.inr ⟨bk, bj⟩
      · exact Or.inr ⟨bk, bj.2⟩
  · rw [tp_wr_b hi] at b
    rcases b with b | ⟨bk, b⟩
    · exact h3 R hT hA i j hi hj b
    · exact hT i k j (h3 R hT hA i k hi hk bk) (h3 R hT hA k j hk hj b)
end
section
/-! drawing a deadline in, by the counts of the followers -/
def tp_c (b : Nat → Bool) (dr : Nat → Nat) (d : Nat) : Nat := tp_cn (fun j => b j && decide (dr j ≤ d)) 7
def tp_V (m : Nat) (b : Nat → Bool) (dr : Nat → Nat) (q d : Nat) (v : Int) : Prop :=
  1 ≤ d ∧ v ≤ q ∧ -8 ≤ v ∧ (∀ e : Nat, 1 ≤ e → e < d → 1 ≤ tp_c b dr e → v + (tp_sl m (tp_c b dr e) : Int) ≤ e) ∧
  (v = q ∨ ∃ e : Nat, 1 ≤ e ∧ e < d ∧ 1 ≤ tp_c b dr e ∧ v + (tp_sl m (tp_c b dr e) : Int) = e)
theorem tp_V0 {m q : Nat} {b : Nat → Bool} {dr : Nat → Nat} : tp_V m b dr q 1 (q : Int) :=
  ⟨Nat.le_refl 1, Int.le_refl _, by omega, fun e h1 h2 => absurd h2 (by omega), Or.inl rfl⟩
theorem tp_Vk {m q d : Nat} {b : Nat → Bool} {dr : Nat → Nat} {v : Int} (h : tp_V m b dr q d v) (hk : tp_c b dr d = 0 ∨ v ≤ (d : Int) - (tp_sl m (tp_c b dr d) : Int)) : tp_V m b dr q (d + 1) v := by
  obtain ⟨h0, h1, h2, h3, h4⟩ := h
  refine ⟨by omega, h1, h2, fun e e1 e2 e3 => ?_, ?_⟩
  · rcases Nat.lt_or_ge e d with z | z
    · exact h3 e e1 z e3
    · have ee : e = d := by omega
      rw [ee] at e3 ⊢
      omega
  · rcases h4 with h4 | ⟨e, e1, e2, e3⟩
    · exact Or.inl h4
    · exact Or.inr ⟨e, e1, by omega, e3⟩
theorem tp_Vn {m q d : Nat} {b : Nat → Bool} {dr : Nat → Nat} {v w : Int} (hm : m = 1 ∨ m = 2) (h : tp_V m b dr q d v) (hc : 1 ≤ tp_c b dr d) (hk : (d : Int) - (tp_sl m (tp_c b dr d) : Int) < v) (hw : w = (d : Int) - (tp_sl m (tp_c b dr d) : Int)) : tp_V m b dr q (d + 1) w := by
  obtain ⟨h0, h1, h2, h3, h4⟩ := h
  have z7 : tp_sl m (tp_c b dr d) ≤ 7 := tp_sl_7 hm (tp_cn_le _ 7)
  refine ⟨by omega, by omega, by omega, fun e e1 e2 e3 => ?_, Or.inr ⟨d, h0, by omega, hc, by omega⟩⟩
  rcases Nat.lt_or_ge e d with z | z
  · have := h3 e e1 z e3
    omega
  · have ee : e = d := by omega
    rw [ee]
    omega
/-! the loop of good -/
def tp_GI (m p : Nat) (B : Nat → Nat) (k o : Nat) (dr τ : Nat → Nat) : Prop :=
  (∀ j, j < 7 → o.testBit j = true → p.testBit j = true) ∧
  (∀ j, j < 7 → p.testBit j = true → o.testBit j = false → τ j < dr j ∧ tp_D m (B j).testBit dr (dr j) ∧ ∀ l, l < 7 → (B j).testBit l = true → o.testBit l = false) ∧
  tp_cn o.testBit 7 + k ≤ 7
theorem tp_G0 {m p : Nat} {B dr τ : Nat → Nat} : tp_GI m p B 0 p dr τ :=
  ⟨fun _ _ h => h, fun j _ h1 h2 => by rw [h1] at h2; exact absurd h2 (by decide), tp_cn_le _ 7⟩
theorem tp_GB {m p : Nat} {A B Q τ : Nat → Nat} (hS : tp_S m p.testBit (fun i j => (A i).testBit j) Q τ) (hW : tp_W A B 7)
    (hK : ∀ i j, i < 7 → j < 7 → (A i).testBit j = true → p.testBit i = true ∧ p.testBit j = true) :
    ∀ i j, i < 7 → j < 7 → p.testBit i = true → (B i).testBit j = true → p.testBit j = true ∧ τ i < τ j := by
  intro i j hi hj pi bj
  refine hW.2.2 (fun i j => p.testBit i = true → p.testBit j = true ∧ τ i < τ j) (fun i l j h1 h2 q => ?_) (fun i j hi hj a q => ?_) i j hi hj bj pi
  · obtain ⟨q1, t1⟩ := h1 q
    obtain ⟨q2, t2⟩ := h2 q1
    exact ⟨q2, by omega⟩
  · have k := hK i j hi hj a
    exact ⟨k.2, hS.2.1 i j hi hj k.1 k.2 a⟩
theorem tp_Gpick {m p k o i : Nat} {A B Q dr τ : Nat → Nat} (hS : tp_S m p.testBit (fun i j => (A i).testBit j) Q τ) (hW : tp_W A B 7)
    (hK : ∀ i j, i < 7 → j < 7 → (A i).testBit j = true → p.testBit i = true ∧ p.testBit j = true) (hQ : ∀ j, j < 7 → Q j < 9) (hG : tp_GI m p B k o dr τ) (ho : o < 128) (h0 : o ≠ 0)
    (h : (o.testBit i = true ∧ ∀ j, j < 7 → (B i).testBit j = true → o.testBit j = false) ∨ (∀ k, k < 7 → o.testBit k = true → ∃ j, j < 7 ∧ (B k).testBit j = true ∧ o.testBit j = true)) :
    o.testBit i = true ∧ ∀ j, j < 7 → (B i).testBit j = true → o.testBit j = false := by
  rcases h with h | h
  · exact h
  · exfalso
    have up : ∀ n k, k < 7 → o.testBit k = true → 8 - τ k ≤ n → False := by
      intro n
      induction n with
      | zero =>
        intro k hk ok h8
        have h1 := hS.1 k hk (hG.1 k hk ok)
        have h2 := hQ k hk
        omega
      | succ n ih =>
        intro k hk ok h8
        obtain ⟨j, hj, bj, oj⟩ := h k hk ok
        have h1 := hS.1 k hk (hG.1 k hk ok)
        have h2 := hQ k hk
        have h3 := (tp_GB hS hW hK k j hk hj (hG.1 k hk ok) bj).2
        exact ih j hj oj (by omega)
    obtain ⟨z, hz, oz⟩ := tp_nz ho h0
    exact up 8 z hz oz (by omega)
theorem tp_Gv {m p k o i : Nat} {A B Q dr τ : Nat → Nat} {v : Int} (hm : m = 1 ∨ m = 2) (hS : tp_S m p.testBit (fun i j => (A i).testBit j) Q τ) (hW : tp_W A B 7)
    (hK : ∀ i j, i < 7 → j < 7 → (A i).testBit j = true → p.testBit i = true ∧ p.testBit j = true) (hG : tp_GI m p B k o dr τ) (hi : i < 7)
    (oi : o.testBit i = true) (bi : ∀ j, j < 7 → (B i).testBit j = true → o.testBit j = false) (hV : tp_V m (B i).testBit dr (Q i) 9 v) : (τ i : Int) + 1 ≤ v := by
  have pi := hG.1 i hi oi
  obtain ⟨_, _, _, _, h4⟩ := hV
  rcases h4 with h4 | ⟨e, e1, e2, e3, e4⟩
  · have := hS.1 i hi pi
    omega
  · have l : τ i + 1 + tp_sl m (tp_c (B i).testBit dr e) ≤ e := tp_low hm hS.2.2 (fun j hj bj => by
      have g := tp_GB hS hW hK i j hi hj pi bj
      exact ⟨g.1, g.2, (hG.2.1 j hj g.1 (bi j hj bj)).1⟩) e3
    omega
theorem tp_Gs {m p k o i w : Nat} {A B Q dr τ : Nat → Nat} (hm : m = 1 ∨ m = 2) (hS : tp_S m p.testBit (fun i j => (A i).testBit j) Q τ) (hW : tp_W A B 7)
    (hK : ∀ i j, i < 7 → j < 7 → (A i).testBit j = true → p.testBit i = true ∧ p.testBit j = true) (hG : tp_GI m p B k o dr τ) (ho : o < 128) (hi : i < 7)
    (oi : o.testBit i = true) (bi : ∀ j, j < 7 → (B i).testBit j = true → o.testBit j = false) (hV : tp_V m (B i).testBit dr (Q i) 9 (w : Int)) :
    tp_GI m p B (k + 1) (tp_cl o i) (tp_up dr i w) τ := by
  have tv := tp_Gv hm hS hW hK hG hi oi bi hV
  obtain ⟨g1, g2, g3⟩ := hG
  have cl : ∀ j, j < 7 → (tp_cl o i).testBit j = (o.testBit j && !decide (j = i)) := fun j hj => tp_cl_b i hi j hj o ho
  have keep : ∀ l, o.testBit l = false → tp_up dr i w l = dr l := by
    intro l ol
    refine tp_up_n _ _ (fun e => ?_)
    rw [e, oi] at ol
    exact absurd ol (by decide)
  have off : ∀ l, l < 7 → o.testBit l = false → (tp_cl o i).testBit l = false := by
    intro l hl ol
    rw [cl l hl, ol]
    rfl
  have same : ∀ j, (∀ l, l < 7 → (B j).testBit l = true → o.testBit l = false) → ∀ d, tp_cn (fun l => (B j).testBit l && decide (tp_up dr i w l ≤ d)) 7 = tp_cn (fun l => (B j).testBit l && decide (dr l ≤ d)) 7 := by
    intro j hj d
    refine tp_cn_congr 7 (fun l hl => ?_)
    cases b : (B j).testBit l with
    | false => rfl
    | true => rw [keep l (hj l hl b)]
  refine ⟨fun j hj cj => ?_, fun j hj pj cj => ?_, ?_⟩
  · rw [cl j hj, Bool.and_eq_true] at cj
    exact g1 j hj cj.1
  · by_cases e : j = i
    · subst e
      rw [tp_up_s]
      refine ⟨by omega, fun d d1 d2 dc => ?_, fun l hl bl => off l hl (bi l hl bl)⟩
      rw [same j bi d] at dc ⊢
      have := hV.2.2.2.1 d d1 (by omega) dc
      unfold tp_c at this
      omega
    · have oj : o.testBit j = false := by
        rw [cl j hj, decide_eq_false e, Bool.not_false, Bool.and_true] at cj
        exact cj
      obtain ⟨t1, t2, t3⟩ := g2 j hj pj oj
      rw [keep j oj]
      refine ⟨t1, fun d d1 d2 dc => ?_, fun l hl bl => off l hl (t3 l hl bl)⟩
      rw [same j t3 d] at dc ⊢
      exact t2 d d1 d2 dc
  · have ins : tp_cn o.testBit 7 = tp_cn (tp_cl o i).testBit 7 + 1 := by
      refine tp_cn_ins hi ?_ (fun j hj => ?_)
      · rw [cl i hi, decide_eq_true (rfl : i = i), Bool.not_true, Bool.and_false]
      · rw [cl j hj]
        by_cases e : j = i
        · rw [e, oi, decide_eq_true (rfl : i = i)]
          rfl
        · rw [decide_eq_false e, Bool.not_false, Bool.and_true, Bool.or_false]
    omega
theorem tp_Gx {m p k o t : Nat} {A B Q dr τ σ : Nat → Nat} (hm : m = 1 ∨ m = 2) (hS : tp_S m p.testBit (fun i j => (A i).testBit j) Q τ) (hW : tp_W A B 7)
    (hG : tp_GI m p B k o dr τ) (hx : k = 7 ∨ o = 0) (hd : ∀ j, j < 7 → dr j < 9) (ht : t ≤ 8) (hI : tp_I m p.testBit (fun i j => (A i).testBit j) dr t σ) :
    ∀ z, z < 7 → p.testBit z = true → σ z = 100 → t < dr z := by
  have none : ∀ j, j < 7 → o.testBit j = false := by
    intro j hj
    cases b : o.testBit j with
    | false => rfl
    | true =>
      rcases hx with hx | hx
      · have h1 := tp_cn_pos (f := o.testBit) hj b
        have h2 := hG.2.2
        omega
      · rw [hx, Nat.zero_testBit] at b
        exact absurd b (by decide)
  exact tp_gj (B := fun i j => (B i).testBit j) (τ := τ) hm (fun i j hi hj _ _ a => hW.1 i j hi hj a) (fun i l j hi hl hj b1 b2 => hW.2.1 i l j hi hl hj hl b1 b2)
    (fun i hi pi => (hG.2.1 i hi pi (none i hi)).2.1) (fun i hi _ => by have := hd i hi; omega) (fun i hi pi => (hG.2.1 i hi pi (none i hi)).1) hS.2.2 ht hI
end
section
/-! close, draw, good: the copy '' -/
section
variable {mh cp pr fk sk : Int32} {a1 a2 a3 a4 a5 a6 a7 : Nat → Int32}
theorem tp_close {post : St1 → Prop} {A : Nat → Nat} (hA : tp_H a2 A 128)
    (H : ∀ b3 B, tp_H b3 B 128 → tp_W A B 7 → post (mh, cp, pr, fk, sk, a1, a2, b3, a4, a5, a6, a7)) : wpX_close post (mh, cp, pr, fk, sk, a1, a2, a3, a4, a5, a6, a7) := by
  have l28 : ∀ s, tp_H s A 128 → ∃ n, wX_close_28 post mh cp pr fk sk n (nI 0) a1 a2 s a4 a5 a6 a7 := by
    intro s0 hs0
    refine pk_loop (fun n k s => wX_close_28 post mh cp pr fk sk n (nI k) a1 a2 s a4 a5 a6 a7) (fun k s => ∃ B, tp_H s B 128 ∧ tp_W A B k) 7 0 s0 (by omega) ⟨A, hs0, tp_W0 A⟩ ?_ ?_
    · rintro n s ⟨B, hB, hW⟩
      exact pk_le 7 7 (fun _ => H s B hB hW) (fun z => absurd z (by omega))
    · rintro n k s hk ⟨B, hB, hW⟩ hk28
      refine pk_le 7 k (fun z => absurd z (by omega)) (fun _ => ?_)
      have hB2 : ∀ j, j < 7 → B j < 128 := fun j hj => (hB j hj).2
      refine Exists.elim (pk_loop (fun n' i s => wX_close_36 post (wX_close_28 post mh cp pr fk sk n) (nI k) mh cp pr fk sk n' (nI i) a1 a2 s a4 a5 a6 a7) (fun i s => ∀ j, j < 7 → s j = nI (tp_wr B k i j)) 7 0 s (by omega) (fun j hj => ?_) ?_ ?_) (fun n' h => ⟨n', h⟩)
      · rw [tp_wr_hi (Nat.zero_le j)]
        exact (hB j hj).1
      · intro n' s' h
        exact pk_le 7 7 (fun _ => nm_r (nI_1 k) (hk28 s' ⟨tp_wr B k 7, fun j hj => ⟨h j hj, tp_wr_lt hk hB2 j hj⟩, tp_Ws hk hW⟩)) (fun z => absurd z (by omega))
      · intro n' i s' hi h hk36
        have ei : s' (nI i).toNatClampNeg = nI (B i) := by rw [nI_clamp (by omega), h i hi, tp_wr_hi (Nat.le_refl i)]
        have ek : s' (nI k).toNatClampNeg = nI (B k) := by rw [nI_clamp (by omega), h k hk, tp_wr_k]
        refine pk_le 7 i (fun z => absurd z (by omega)) (fun _ => ⟨pk_in i 7 hi, ?_⟩)
        rw [ei, ek]
        refine ek_if (tp_bit0 k (by omega) (B i) (hB2 i hi)) (fun b => nm_r (nI_1 i) (hk36 s' (fun j hj => ?_))) (fun b => ⟨pk_in i 7 hi, pk_in k 7 hk, pk_in i 7 hi, nm_r (e' := upd s' i (nI (B i ||| B k))) (by rw [nI_clamp (by omega), tp_orB (hB2 i hi) (hB2 k hk)]) (nm_r (nI_1 i) (hk36 _ (fun j hj => ?_)))⟩)
        · by_cases e : j = i
          · rw [e, tp_wr_f b, h i hi, tp_wr_hi (Nat.le_refl i)]
          · rw [tp_wr_ne e]
            exact h j hj
        · have bt : (B i).testBit k = true := by revert b; cases (B i).testBit k <;> decide
          by_cases e : j = i
          · rw [e, tp_wr_t bt, pk_us]
          · rw [tp_wr_ne e, pk_un e]
            exact h j hj
  refine pk_loop (fun n i s => wX_close_2 post mh cp pr fk sk n (nI i) a1 a2 s a4 a5 a6 a7) (fun i s => ∀ j, j < i → s j = nI (A j)) 7 0 a3 (by omega) (fun j hj => absurd hj (by omega)) ?_ ?_
  · intro n s h
    exact pk_le 7 7 (fun _ => l28 s (fun j hj => ⟨h j hj, (hA j hj).2⟩)) (fun z => absurd z (by omega))
  · intro n i s hi h hw
    refine pk_le 7 i (fun z => absurd z (by omega)) (fun _ => ⟨pk_in i 7 hi, pk_in i 7 hi, nm_e (nm_r (nI_1 i) (hw _ (tp_fill (f := fun j => nI (A j)) (nI_clamp (by omega)) h ?_)))⟩)
    rw [nI_clamp (by omega), (hA i hi).1, tp_nar (hA i hi).2]
theorem tp_d42 {post : St1 → Prop} {J9 : Int32 → Int32 → Prop} {x1 x : Int32} {c z d : Nat} (hc : c ≤ 7) (hz : z ≤ 7) (hd : d ≤ 8)
    (Hk : (c = 0 ∨ x.toInt ≤ (d : Int) - z) → J9 x (nI (d + 1))) (Hn : 1 ≤ c → (d : Int) - z < x.toInt → ∀ y : Int32, y.toInt = (d : Int) - z → J9 y (nI (d + 1))) :
    wX_draw_42 post J9 x1 x (nI d) (nI c) (nI z) mh cp pr fk sk a1 a2 a3 a4 a5 a6 a7 := by
  have es : (nI d - nI z).toInt = (d : Int) - z := pk_sub_toInt (by omega) (by omega)
  refine pk_le c 0 (fun h => nm_r (nI_1 d) (Hk (Or.inl (by omega)))) (fun h => br_c (fun g => nm_r (nI_1 d) (Hk (Or.inr ?_))) (fun g => nm_e (nm_r (nI_1 d) (Hn (by omega) ?_ _ es))))
  · rw [Int32.le_iff_toInt_le, es] at g
    exact g
  · rw [Int32.le_iff_toInt_le, es] at g
    omega
theorem tp_draw {post : St1 → Prop} {m i Bi q : Nat} {dr : Nat → Nat} (hm : m = 1 ∨ m = 2) (hi : i < 7) (hB : a3 i = nI Bi) (hB2 : Bi < 128) (hdr : tp_H a5 dr 9) (hq : a4 i = nI q) (hq2 : q < 9)
    (H : ∀ v : Int32, tp_V m Bi.testBit dr q 9 v.toInt → post (nI m, cp, pr, fk, sk, a1, a2, a3, a4, upd a5 i v, a6, a7)) :
    wpX_draw post (nI m, cp, pr, fk, sk, a1, a2, a3, a4, a5, a6, a7) (nI i) := by
  refine ⟨pk_in i 7 hi, nm_r (e' := nI q) (by rw [nI_clamp (by omega)]; exact hq) ?_⟩
  refine pk_loop (fun n d (s : Int32) => wX_draw_9 post (nI i) (nI m) cp pr fk sk a1 a2 a3 a4 a5 a6 a7 n s (nI d)) (fun d s => tp_V m Bi.testBit dr q d s.toInt) 9 1 (nI q) (by omega) ?_ ?_ ?_
  · rw [nI_toInt (by omega)]
    exact tp_V0
  · intro n s h
    have h1 := h.2.1
    have h2 := h.2.2.1
    exact pk_lt 8 9 (fun _ => ⟨pk_in i 7 hi, nm_r (e' := upd a5 i s) (by rw [nI_clamp (by omega), tp_by (by omega) (by omega)]) (H s h)⟩) (fun z => absurd z (by omega))
  · intro n d s hd9 h hk
    have c7 : tp_c Bi.testBit dr d ≤ 7 := tp_cn_le _ 7
    have z7 := tp_sl_7 hm c7
    refine pk_lt 8 d (fun z => absurd z (by omega)) (fun _ => tp_folw hi (by omega) hB hB2 hdr ?_)
    have fin : wX_draw_42 post (wX_draw_9 post (nI i) (nI m) cp pr fk sk a1 a2 a3 a4 a5 a6 a7 n) (nI i) s (nI d) (nI (tp_c Bi.testBit dr d)) (nI (tp_sl m (tp_c Bi.testBit dr d))) (nI m) cp pr fk sk a1 a2 a3 a4 a5 a6 a7 :=
      tp_d42 c7 z7 (by omega) (fun g => hk s (tp_Vk h g)) (fun g1 g2 y ey => hk y (tp_Vn hm h g1 g2 ey))
    refine pk_eq m 1 (fun e => ?_) (fun e => ?_)
    · have es : tp_sl m (tp_c Bi.testBit dr d) = tp_c Bi.testBit dr d := if_pos e
      rw [es] at fin
      exact fin
    · have es : tp_sl m (tp_c Bi.testBit dr d) = (tp_c Bi.testBit dr d + 1) / 2 := if_neg e
      rw [es] at fin
      show wX_draw_42 post _ (nI i) s (nI d) (nI (tp_c Bi.testBit dr d)) ((nI (tp_c Bi.testBit dr d) + 1) >>> ((1 : Int32) &&& 31)) (nI m) cp pr fk sk a1 a2 a3 a4 a5 a6 a7
      rw [nI_1, pk_shrN (by omega) _ 1 (by decide)]
      exact fin
theorem tp_good {post : Int32 → St1 → Prop} {m p : Nat} {A Q : Nat → Nat} (hm : m = 1 ∨ m = 2) (hp : p < 128) (hA : tp_H a2 A 128)
    (hK : ∀ i j, i < 7 → j < 7 → (A i).testBit j = true → p.testBit i = true ∧ p.testBit j = true) (hQ : tp_H a4 Q 9)
    (H1 : tp_F m p.testBit (fun i j => (A i).testBit j) Q → ∀ b3 b5, post 1 (nI m, cp, nI p, fk, sk, a1, a2, b3, a4, b5, a6, a7))
    (H0 : ¬ tp_F m p.testBit (fun i j => (A i).testBit j) Q → ∀ b3 b5, post 0 (nI m, cp, nI p, fk, sk, a1, a2, b3, a4, b5, a6, a7)) :
    wpX_good post (nI m, cp, nI p, fk, sk, a1, a2, a3, a4, a5, a6, a7) := by
  unfold wpX_good
  refine tp_close hA (fun b3 B hB hW => ?_)
  have q9 : ∀ j, j < 7 → Q j < 9 := fun j hj => (hQ j hj).2
  have l79 : ∀ k o dr s5, (k = 7 ∨ o = 0) → tp_H s5 dr 9 → (∀ j, j < 7 → p.testBit j = true → dr j ≤ Q j) → (∀ τ, tp_S m p.testBit (fun i j => (A i).testBit j) Q τ → tp_GI m p B k o dr τ) →
      wX_good_79 post (nI m) cp (nI p) fk sk a1 a2 b3 a4 s5 a6 a7 := by
    intro k o dr s5 hx hdr hle hG
    unfold wX_good_79
    refine tp_disp (X := tp_F m p.testBit (fun i j => (A i).testBit j) Q) hm hp hA hdr ?_ (fun t σ hI hw => ⟨σ, tp_done hI hw hle⟩) (fun x => ⟨rfl, H1 x _ _⟩) (fun x => ⟨rfl, H0 x _ _⟩)
    rintro ⟨τ, hS⟩ t σ ht hI
    exact tp_Gx hm hS hW (hG τ hS) hx (fun j hj => (hdr j hj).2) ht hI
  have l32 : ∀ s5, tp_H s5 (fun _ => 0) 9 → ∃ n, wX_good_32 post n (nI p) (nI 0) (nI m) cp (nI p) fk sk a1 a2 b3 a4 s5 a6 a7 := by
    intro s5 hs5
    refine pk_loop (fun n k (s : Int32 × (Nat → Int32)) => wX_good_32 post n s.1 (nI k) (nI m) cp (nI p) fk sk a1 a2 b3 a4 s.2 a6 a7)
      (fun k s => ∃ o dr, o < 128 ∧ s.1 = nI o ∧ tp_H s.2 dr 9 ∧ (∀ j, j < 7 → p.testBit j = true → dr j ≤ Q j) ∧ (∀ τ, tp_S m p.testBit (fun i j => (A i).testBit j) Q τ → tp_GI m p B k o dr τ)) 7 0 (nI p, s5) (by omega)
      ⟨p, fun _ => 0, hp, rfl, hs5, fun j _ _ => Nat.zero_le _, fun τ _ => tp_G0⟩ ?_ ?_
    · rintro n ⟨s1, s2⟩ ⟨o, dr, ho, rfl, hdr, hle, hG⟩
      exact pk_le 7 7 (fun _ => l79 7 o dr s2 (Or.inl rfl) hdr hle hG) (fun z => absurd z (by omega))
    · rintro n k ⟨s1, s2⟩ hk7 ⟨o, dr, ho, rfl, hdr, hle, hG⟩ hk
      refine pk_le 7 k (fun z => absurd z (by omega)) (fun _ => pk_eq o 0 (fun e => l79 k o dr s2 (Or.inr e) hdr hle hG) (fun e => ?_))
      refine tp_wof ho hB (fun i hi hpick => ?_)
      refine tp_draw hm hi (hB i hi).1 (hB i hi).2 hdr (hQ i hi).1 (hQ i hi).2 (fun v hV => ⟨pk_in i 7 hi, ?_⟩)
      rw [nI_clamp (show i < 2 ^ 31 by omega), pk_us]
      have vq := hV.2.1
      have qi := q9 i hi
      refine br_c (fun g => ?_) (fun g => H0 ?_ _ _)
      · rw [Int32.le_iff_toInt_le, Int32.toInt_one] at g
        obtain ⟨w, w1, wq, rfl, ew⟩ := tp_toNat g vq (by omega)
        refine nm_r (tp_clI i hi o ho) (nm_r (nI_1 k) (hk (nI (tp_cl o i), upd s2 i (nI w)) ⟨tp_cl o i, tp_up dr i w, tp_cl_lt i ho, rfl, tp_put hdr (by omega), fun j hj pj => ?_, fun τ hS => ?_⟩))
        · by_cases ej : j = i
          · rw [ej, tp_up_s]
            exact wq
          · rw [tp_up_n _ _ ej]
            exact hle j hj pj
        · obtain ⟨oi, bi⟩ := tp_Gpick hS hW hK q9 (hG τ hS) ho e hpick
          rw [ew] at hV
          exact tp_Gs hm hS hW hK (hG τ hS) ho hi oi bi hV
      · rintro ⟨τ, hS⟩
        obtain ⟨oi, bi⟩ := tp_Gpick hS hW hK q9 (hG τ hS) ho e hpick
        have := tp_Gv hm hS hW hK (hG τ hS) hi oi bi hV
        rw [Int32.le_iff_toInt_le, Int32.toInt_one] at g
        omega
  refine pk_loop (fun n k s => wX_good_6 post (nI m) cp (nI p) fk sk n (nI k) a1 a2 b3 a4 s a6 a7) (fun k s => ∀ j, j < k → s j = nI 0) 7 0 a5 (by omega) (fun j hj => absurd hj (by omega)) ?_ ?_
  · intro n s h
    exact pk_le 7 7 (fun _ => l32 s (fun j hj => ⟨h j hj, Nat.succ_pos 8⟩)) (fun z => absurd z (by omega))
  · intro n k s hk7 h hk
    exact pk_le 7 k (fun z => absurd z (by omega)) (fun _ => ⟨pk_in k 7 hk7, nm_e (nm_r (nI_1 k) (hk _ (tp_fill (f := fun _ => nI 0) (nI_clamp (by omega)) h rfl)))⟩)
end
end
section
/-! close, draw, good: the copy '_2' -/
section
variable {mh cp pr fk sk : Int32} {a1 a2 a3 a4 a5 a6 a7 : Nat → Int32}
theorem tp_close_2 {post : St1 → Prop} {A : Nat → Nat} (hA : tp_H a2 A 128)
    (H : ∀ b3 B, tp_H b3 B 128 → tp_W A B 7 → post (mh, cp, pr, fk, sk, a1, a2, b3, a4, a5, a6, a7)) : wpX_close_2 post (mh, cp, pr, fk, sk, a1, a2, a3, a4, a5, a6, a7) := by
  have l28 : ∀ s, tp_H s A 128 → ∃ n, wX_close_2_28 post mh cp pr fk sk n (nI 0) a1 a2 s a4 a5 a6 a7 := by
    intro s0 hs0
    refine pk_loop (fun n k s => wX_close_2_28 post mh cp pr fk sk n (nI k) a1 a2 s a4 a5 a6 a7) (fun k s => ∃ B, tp_H s B 128 ∧ tp_W A B k) 7 0 s0 (by omega) ⟨A, hs0, tp_W0 A⟩ ?_ ?_
    · rintro n s ⟨B, hB, hW⟩
      exact pk_le 7 7 (fun _ => H s B hB hW) (fun z => absurd z (by omega))
    · rintro n k s hk ⟨B, hB, hW⟩ hk28
      refine pk_le 7 k (fun z => absurd z (by omega)) (fun _ => ?_)
      have hB2 : ∀ j, j < 7 → B j < 128 := fun j hj => (hB j hj).2
      refine Exists.elim (pk_loop (fun n' i s => wX_close_2_36 post (wX_close_2_28 post mh cp pr fk sk n) (nI k) mh cp pr fk sk n' (nI i) a1 a2 s a4 a5 a6 a7) (fun i s => ∀ j, j < 7 → s j = nI (tp_wr B k i j)) 7 0 s (by omega) (fun j hj => ?_) ?_ ?_) (fun n' h => ⟨n', h⟩)
      · rw [tp_wr_hi (Nat.zero_le j)]
        exact (hB j hj).1
      · intro n' s' h
        exact pk_le 7 7 (fun _ => nm_r (nI_1 k) (hk28 s' ⟨tp_wr B k 7, fun j hj => ⟨h j hj, tp_wr_lt hk hB2 j hj⟩, tp_Ws hk hW⟩)) (fun z => absurd z (by omega))
      · intro n' i s' hi h hk36
        have ei : s' (nI i).toNatClampNeg = nI (B i) := by rw [nI_clamp (by omega), h i hi, tp_wr_hi (Nat.le_refl i)]
        have ek : s' (nI k).toNatClampNeg = nI (B k) := by rw [nI_clamp (by omega), h k hk, tp_wr_k]
        refine pk_le 7 i (fun z => absurd z (by omega)) (fun _ => ⟨pk_in i 7 hi, ?_⟩)
        rw [ei, ek]
        refine ek_if (tp_bit0 k (by omega) (B i) (hB2 i hi)) (fun b => nm_r (nI_1 i) (hk36 s' (fun j hj => ?_))) (fun b => ⟨pk_in i 7 hi, pk_in k 7 hk, pk_in i 7 hi, nm_r (e' := upd s' i (nI (B i ||| B k))) (by rw [nI_clamp (by omega), tp_orB (hB2 i hi) (hB2 k hk)]) (nm_r (nI_1 i) (hk36 _ (fun j hj => ?_)))⟩)
        · by_cases e : j = i
          · rw [e, tp_wr_f b, h i hi, tp_wr_hi (Nat.le_refl i)]
          · rw [tp_wr_ne e]
            exact h j hj
        · have bt : (B i).testBit k = true := by revert b; cases (B i).testBit k <;> decide
          by_cases e : j = i
          · rw [e, tp_wr_t bt, pk_us]
          · rw [tp_wr_ne e, pk_un e]
            exact h j hj
  refine pk_loop (fun n i s => wX_close_2_2 post mh cp pr fk sk n (nI i) a1 a2 s a4 a5 a6 a7) (fun i s => ∀ j, j < i → s j = nI (A j)) 7 0 a3 (by omega) (fun j hj => absurd hj (by omega)) ?_ ?_
  · intro n s h
    exact pk_le 7 7 (fun _ => l28 s (fun j hj => ⟨h j hj, (hA j hj).2⟩)) (fun z => absurd z (by omega))
  · intro n i s hi h hw
    refine pk_le 7 i (fun z => absurd z (by omega)) (fun _ => ⟨pk_in i 7 hi, pk_in i 7 hi, nm_e (nm_r (nI_1 i) (hw _ (tp_fill (f := fun j => nI (A j)) (nI_clamp (by omega)) h ?_)))⟩)
    rw [nI_clamp (by omega), (hA i hi).1, tp_nar (hA i hi).2]
theorem tp_d42_2 {post : St1 → Prop} {J9 : Int32 → Int32 → Prop} {x1 x : Int32} {c z d : Nat} (hc : c ≤ 7) (hz : z ≤ 7) (hd : d ≤ 8)
    (Hk : (c = 0 ∨ x.toInt ≤ (d : Int) - z) → J9 x (nI (d + 1))) (Hn : 1 ≤ c → (d : Int) - z < x.toInt → ∀ y : Int32, y.toInt = (d : Int) - z → J9 y (nI (d + 1))) :
    wX_draw_2_42 post J9 x1 x (nI d) (nI c) (nI z) mh cp pr fk sk a1 a2 a3 a4 a5 a6 a7 := by
  have es : (nI d - nI z).toInt = (d : Int) - z := pk_sub_toInt (by omega) (by omega)
  refine pk_le c 0 (fun h => nm_r (nI_1 d) (Hk (Or.inl (by omega)))) (fun h => br_c (fun g => nm_r (nI_1 d) (Hk (Or.inr ?_))) (fun g => nm_e (nm_r (nI_1 d) (Hn (by omega) ?_ _ es))))
  · rw [Int32.le_iff_toInt_le, es] at g
    exact g
  · rw [Int32.le_iff_toInt_le, es] at g
    omega
theorem tp_draw_2 {post : St1 → Prop} {m i Bi q : Nat} {dr : Nat → Nat} (hm : m = 1 ∨ m = 2) (hi : i < 7) (hB : a3 i = nI Bi) (hB2 : Bi < 128) (hdr : tp_H a5 dr 9) (hq : a4 i = nI q) (hq2 : q < 9)
    (H : ∀ v : Int32, tp_V m Bi.testBit dr q 9 v.toInt → post (nI m, cp, pr, fk, sk, a1, a2, a3, a4, upd a5 i v, a6, a7)) :
    wpX_draw_2 post (nI m, cp, pr, fk, sk, a1, a2, a3, a4, a5, a6, a7) (nI i) := by
  refine ⟨pk_in i 7 hi, nm_r (e' := nI q) (by rw [nI_clamp (by omega)]; exact hq) ?_⟩
  refine pk_loop (fun n d (s : Int32) => wX_draw_2_9 post (nI i) (nI m) cp pr fk sk a1 a2 a3 a4 a5 a6 a7 n s (nI d)) (fun d s => tp_V m Bi.testBit dr q d s.toInt) 9 1 (nI q) (by omega) ?_ ?_ ?_
  · rw [nI_toInt (by omega)]
    exact tp_V0
  · intro n s h
    have h1 := h.2.1
    have h2 := h.2.2.1
    exact pk_lt 8 9 (fun _ => ⟨pk_in i 7 hi, nm_r (e' := upd a5 i s) (by rw [nI_clamp (by omega), tp_by (by omega) (by omega)]) (H s h)⟩) (fun z => absurd z (by omega))
  · intro n d s hd9 h hk
    have c7 : tp_c Bi.testBit dr d ≤ 7 := tp_cn_le _ 7
    have z7 := tp_sl_7 hm c7
    refine pk_lt 8 d (fun z => absurd z (by omega)) (fun _ => tp_folw hi (by omega) hB hB2 hdr ?_)
    have fin : wX_draw_2_42 post (wX_draw_2_9 post (nI i) (nI m) cp pr fk sk a1 a2 a3 a4 a5 a6 a7 n) (nI i) s (nI d) (nI (tp_c Bi.testBit dr d)) (nI (tp_sl m (tp_c Bi.testBit dr d))) (nI m) cp pr fk sk a1 a2 a3 a4 a5 a6 a7 :=
      tp_d42_2 c7 z7 (by omega) (fun g => hk s (tp_Vk h g)) (fun g1 g2 y ey => hk y (tp_Vn hm h g1 g2 ey))
    refine pk_eq m 1 (fun e => ?_) (fun e => ?_)
    · have es : tp_sl m (tp_c Bi.testBit dr d) = tp_c Bi.testBit dr d := if_pos e
      rw [es] at fin
      exact fin
    · have es : tp_sl m (tp_c Bi.testBit dr d) = (tp_c Bi.testBit dr d + 1) / 2 := if_neg e
      rw [es] at fin
      show wX_draw_2_42 post _ (nI i) s (nI d) (nI (tp_c Bi.testBit dr d)) ((nI (tp_c Bi.testBit dr d) + 1) >>> ((1 : Int32) &&& 31)) (nI m) cp pr fk sk a1 a2 a3 a4 a5 a6 a7
      rw [nI_1, pk_shrN (by omega) _ 1 (by decide)]
      exact fin
theorem tp_good_2 {post : Int32 → St1 → Prop} {m p : Nat} {A Q : Nat → Nat} (hm : m = 1 ∨ m = 2) (hp : p < 128) (hA : tp_H a2 A 128)
    (hK : ∀ i j, i < 7 → j < 7 → (A i).testBit j = true → p.testBit i = true ∧ p.testBit j = true) (hQ : tp_H a4 Q 9)
    (H1 : tp_F m p.testBit (fun i j => (A i).testBit j) Q → ∀ b3 b5, post 1 (nI m, cp, nI p, fk, sk, a1, a2, b3, a4, b5, a6, a7))
    (H0 : ¬ tp_F m p.testBit (fun i j => (A i).testBit j) Q → ∀ b3 b5, post 0 (nI m, cp, nI p, fk, sk, a1, a2, b3, a4, b5, a6, a7)) :
    wpX_good_2 post (nI m, cp, nI p, fk, sk, a1, a2, a3, a4, a5, a6, a7) := by
  unfold wpX_good_2
  refine tp_close_2 hA (fun b3 B hB hW => ?_)
  have q9 : ∀ j, j < 7 → Q j < 9 := fun j hj => (hQ j hj).2
  have l79 : ∀ k o dr s5, (k = 7 ∨ o = 0) → tp_H s5 dr 9 → (∀ j, j < 7 → p.testBit j = true → dr j ≤ Q j) → (∀ τ, tp_S m p.testBit (fun i j => (A i).testBit j) Q τ → tp_GI m p B k o dr τ) →
      wX_good_2_79 post (nI m) cp (nI p) fk sk a1 a2 b3 a4 s5 a6 a7 := by
    intro k o dr s5 hx hdr hle hG
    unfold wX_good_2_79
    refine tp_disp (X := tp_F m p.testBit (fun i j => (A i).testBit j) Q) hm hp hA hdr ?_ (fun t σ hI hw => ⟨σ, tp_done hI hw hle⟩) (fun x => ⟨rfl, H1 x _ _⟩) (fun x => ⟨rfl, H0 x _ _⟩)
    rintro ⟨τ, hS⟩ t σ ht hI
    exact tp_Gx hm hS hW (hG τ hS) hx (fun j hj => (hdr j hj).2) ht hI
  have l32 : ∀ s5, tp_H s5 (fun _ => 0) 9 → ∃ n, wX_good_2_32 post n (nI p) (nI 0) (nI m) cp (nI p) fk sk a1 a2 b3 a4 s5 a6 a7 := by
    intro s5 hs5
    refine pk_loop (fun n k (s : Int32 × (Nat → Int32)) => wX_good_2_32 post n s.1 (nI k) (nI m) cp (nI p) fk sk a1 a2 b3 a4 s.2 a6 a7)
      (fun k s => ∃ o dr, o < 128 ∧ s.1 = nI o ∧ tp_H s.2 dr 9 ∧ (∀ j, j < 7 → p.testBit j = true → dr j ≤ Q j) ∧ (∀ τ, tp_S m p.testBit (fun i j => (A i).testBit j) Q τ → tp_GI m p B k o dr τ)) 7 0 (nI p, s5) (by omega)
      ⟨p, fun _ => 0, hp, rfl, hs5, fun j _ _ => Nat.zero_le _, fun τ _ => tp_G0⟩ ?_ ?_
    · rintro n ⟨s1, s2⟩ ⟨o, dr, ho, rfl, hdr, hle, hG⟩
      exact pk_le 7 7 (fun _ => l79 7 o dr s2 (Or.inl rfl) hdr hle hG) (fun z => absurd z (by omega))
    · rintro n k ⟨s1, s2⟩ hk7 ⟨o, dr, ho, rfl, hdr, hle, hG⟩ hk
      refine pk_le 7 k (fun z => absurd z (by omega)) (fun _ => pk_eq o 0 (fun e => l79 k o dr s2 (Or.inr e) hdr hle hG) (fun e => ?_))
      refine tp_wof ho hB (fun i hi hpick => ?_)
      refine tp_draw_2 hm hi (hB i hi).1 (hB i hi).2 hdr (hQ i hi).1 (hQ i hi).2 (fun v hV => ⟨pk_in i 7 hi, ?_⟩)
      rw [nI_clamp (show i < 2 ^ 31 by omega), pk_us]
      have vq := hV.2.1
      have qi := q9 i hi
      refine br_c (fun g => ?_) (fun g => H0 ?_ _ _)
      · rw [Int32.le_iff_toInt_le, Int32.toInt_one] at g
        obtain ⟨w, w1, wq, rfl, ew⟩ := tp_toNat g vq (by omega)
        refine nm_r (tp_clI i hi o ho) (nm_r (nI_1 k) (hk (nI (tp_cl o i), upd s2 i (nI w)) ⟨tp_cl o i, tp_up dr i w, tp_cl_lt i ho, rfl, tp_put hdr (by omega), fun j hj pj => ?_, fun τ hS => ?_⟩))
        · by_cases ej : j = i
          · rw [ej, tp_up_s]
            exact wq
          · rw [tp_up_n _ _ ej]
            exact hle j hj pj
        · obtain ⟨oi, bi⟩ := tp_Gpick hS hW hK q9 (hG τ hS) ho e hpick
          rw [ew] at hV
          exact tp_Gs hm hS hW hK (hG τ hS) ho hi oi bi hV
      · rintro ⟨τ, hS⟩
        obtain ⟨oi, bi⟩ := tp_Gpick hS hW hK q9 (hG τ hS) ho e hpick
        have := tp_Gv hm hS hW hK (hG τ hS) hi oi bi hV
        rw [Int32.le_iff_toInt_le, Int32.toInt_one] at g
        omega
  refine pk_loop (fun n k s => wX_good_2_6 post (nI m) cp (nI p) fk sk n (nI k) a1 a2 b3 a4 s a6 a7) (fun k s => ∀ j, j < k → s j = nI 0) 7 0 a5 (by omega) (fun j hj => absurd hj (by omega)) ?_ ?_
  · intro n s h
    exact pk_le 7 7 (fun _ => l32 s (fun j hj => ⟨h j hj, Nat.succ_pos 8⟩)) (fun z => absurd z (by omega))
  · intro n k s hk7 h hk
    exact pk_le 7 k (fun z => absurd z (by omega)) (fun _ => ⟨pk_in k 7 hk7, nm_e (nm_r (nI_1 k) (hk _ (tp_fill (f := fun _ => nI 0) (nI_clamp (by omega)) h rfl)))⟩)
end
end
section
/-! close, draw, good: the copy '_3' -/
section
variable {mh cp pr fk sk : Int32} {a1 a2 a3 a4 a5 a6 a7 : Nat → Int32}
theorem tp_close_3 {post : St1 → Prop} {A : Nat → Nat} (hA : tp_H a2 A 128)
    (H : ∀ b3 B, tp_H b3 B 128 → tp_W A B 7 → post (mh, cp, pr, fk, sk, a1, a2, b3, a4, a5, a6, a7)) : wpX_close_3 post (mh, cp, pr, fk, sk, a1, a2, a3, a4, a5, a6, a7) := by
  have l28 : ∀ s, tp_H s A 128 → ∃ n, wX_close_3_28 post mh cp pr fk sk n (nI 0) a1 a2 s a4 a5 a6 a7 := by
    intro s0 hs0
    refine pk_loop (fun n k s => wX_close_3_28 post mh cp pr fk sk n (nI k) a1 a2 s a4 a5 a6 a7) (fun k s => ∃ B, tp_H s B 128 ∧ tp_W A B k) 7 0 s0 (by omega) ⟨A, hs0, tp_W0 A⟩ ?_ ?_
    · rintro n s ⟨B, hB, hW⟩
      exact pk_le 7 7 (fun _ => H s B hB hW) (fun z => absurd z (by omega))
    · rintro n k s hk ⟨B, hB, hW⟩ hk28
      refine pk_le 7 k (fun z => absurd z (by omega)) (fun _ => ?_)
      have hB2 : ∀ j, j < 7 → B j < 128 := fun j hj => (hB j hj).2
      refine Exists.elim (pk_loop (fun n' i s => wX_close_3_36 post (wX_close_3_28 post mh cp pr fk sk n) (nI k) mh cp pr fk sk n' (nI i) a1 a2 s a4 a5 a6 a7) (fun i s => ∀ j, j < 7 → s j = nI (tp_wr B k i j)) 7 0 s (by omega) (fun j hj => ?_) ?_ ?_) (fun n' h => ⟨n', h⟩)
      · rw [tp_wr_hi (Nat.zero_le j)]
        exact (hB j hj).1
      · intro n' s' h
        exact pk_le 7 7 (fun _ => nm_r (nI_1 k) (hk28 s' ⟨tp_wr B k 7, fun j hj => ⟨h j hj, tp_wr_lt hk hB2 j hj⟩, tp_Ws hk hW⟩)) (fun z => absurd z (by omega))
      · intro n' i s' hi h hk36
        have ei : s' (nI i).toNatClampNeg = nI (B i) := by rw [nI_clamp (by omega), h i hi, tp_wr_hi (Nat.le_refl i)]
        have ek : s' (nI k).toNatClampNeg = nI (B k) := by rw [nI_clamp (by omega), h k hk, tp_wr_k]
        refine pk_le 7 i (fun z => absurd z (by omega)) (fun _ => ⟨pk_in i 7 hi, ?_⟩)
        rw [ei, ek]
        refine ek_if (tp_bit0 k (by omega) (B i) (hB2 i hi)) (fun b => nm_r (nI_1 i) (hk36 s' (fun j hj => ?_))) (fun b => ⟨pk_in i 7 hi, pk_in k 7 hk, pk_in i 7 hi, nm_r (e' := upd s' i (nI (B i ||| B k))) (by rw [nI_clamp (by omega), tp_orB (hB2 i hi) (hB2 k hk)]) (nm_r (nI_1 i) (hk36 _ (fun j hj => ?_)))⟩)
        · by_cases e : j = i
          · rw [e, tp_wr_f b, h i hi, tp_wr_hi (Nat.le_refl i)]
          · rw [tp_wr_ne e]
            exact h j hj
        · have bt : (B i).testBit k = true := by revert b; cases (B i).testBit k <;> decide
          by_cases e : j = i
          · rw [e, tp_wr_t bt, pk_us]
          · rw [tp_wr_ne e, pk_un e]
            exact h j hj
  refine pk_loop (fun n i s => wX_close_3_2 post mh cp pr fk sk n (nI i) a1 a2 s a4 a5 a6 a7) (fun i s => ∀ j, j < i → s j = nI (A j)) 7 0 a3 (by omega) (fun j hj => absurd hj (by omega)) ?_ ?_
  · intro n s h
    exact pk_le 7 7 (fun _ => l28 s (fun j hj => ⟨h j hj, (hA j hj).2⟩)) (fun z => absurd z (by omega))
  · intro n i s hi h hw
    refine pk_le 7 i (fun z => absurd z (by omega)) (fun _ => ⟨pk_in i 7 hi, pk_in i 7 hi, nm_e (nm_r (nI_1 i) (hw _ (tp_fill (f := fun j => nI (A j)) (nI_clamp (by omega)) h ?_)))⟩)
    rw [nI_clamp (by omega), (hA i hi).1, tp_nar (hA i hi).2]
theorem tp_d42_3 {post : St1 → Prop} {J9 : Int32 → Int32 → Prop} {x1 x : Int32} {c z d : Nat} (hc : c ≤ 7) (hz : z ≤ 7) (hd : d ≤ 8)
    (Hk : (c = 0 ∨ x.toInt ≤ (d : Int) - z) → J9 x (nI (d + 1))) (Hn : 1 ≤ c → (d : Int) - z < x.toInt → ∀ y : Int32, y.toInt = (d : Int) - z → J9 y (nI (d + 1))) :
    wX_draw_3_42 post J9 x1 x (nI d) (nI c) (nI z) mh cp pr fk sk a1 a2 a3 a4 a5 a6 a7 := by
  have es : (nI d - nI z).toInt = (d : Int) - z := pk_sub_toInt (by omega) (by omega)
  refine pk_le c 0 (fun h => nm_r (nI_1 d) (Hk (Or.inl (by omega)))) (fun h => br_c (fun g => nm_r (nI_1 d) (Hk (Or.inr ?_))) (fun g => nm_e (nm_r (nI_1 d) (Hn (by omega) ?_ _ es))))
  · rw [Int32.le_iff_toInt_le, es] at g
    exact g
  · rw [Int32.le_iff_toInt_le, es] at g
    omega
theorem tp_draw_3 {post : St1 → Prop} {m i Bi q : Nat} {dr : Nat → Nat} (hm : m = 1 ∨ m = 2) (hi : i < 7) (hB : a3 i = nI Bi) (hB2 : Bi < 128) (hdr : tp_H a5 dr 9) (hq : a4 i = nI q) (hq2 : q < 9)
    (H : ∀ v : Int32, tp_V m Bi.testBit dr q 9 v.toInt → post (nI m, cp, pr, fk, sk, a1, a2, a3, a4, upd a5 i v, a6, a7)) :
    wpX_draw_3 post (nI m, cp, pr, fk, sk, a1, a2, a3, a4, a5, a6, a7) (nI i) := by
  refine ⟨pk_in i 7 hi, nm_r (e' := nI q) (by rw [nI_clamp (by omega)]; exact hq) ?_⟩
  refine pk_loop (fun n d (s : Int32) => wX_draw_3_9 post (nI i) (nI m) cp pr fk sk a1 a2 a3 a4 a5 a6 a7 n s (nI d)) (fun d s => tp_V m Bi.testBit dr q d s.toInt) 9 1 (nI q) (by omega) ?_ ?_ ?_
  · rw [nI_toInt (by omega)]
    exact tp_V0
  · intro n s h
    have h1 := h.2.1
    have h2 := h.2.2.1
    exact pk_lt 8 9 (fun _ => ⟨pk_in i 7 hi, nm_r (e' := upd a5 i s) (by rw [nI_clamp (by omega), tp_by (by omega) (by omega)]) (H s h)⟩) (fun z => absurd z (by omega))
  · intro n d s hd9 h hk
    have c7 : tp_c Bi.testBit dr d ≤ 7 := tp_cn_le _ 7
    have z7 := tp_sl_7 hm c7
    refine pk_lt 8 d (fun z => absurd z (by omega)) (fun _ => tp_folw hi (by omega) hB hB2 hdr ?_)
    have fin : wX_draw_3_42 post (wX_draw_3_9 post (nI i) (nI m) cp pr fk sk a1 a2 a3 a4 a5 a6 a7 n) (nI i) s (nI d) (nI (tp_c Bi.testBit dr d)) (nI (tp_sl m (tp_c Bi.testBit dr d))) (nI m) cp pr fk sk a1 a2 a3 a4 a5 a6 a7 :=
      tp_d42_3 c7 z7 (by omega) (fun g => hk s (tp_Vk h g)) (fun g1 g2 y ey => hk y (tp_Vn hm h g1 g2 ey))
    refine pk_eq m 1 (fun e => ?_) (fun e => ?_)
    · have es : tp_sl m (tp_c Bi.testBit dr d) = tp_c Bi.testBit dr d := if_pos e
      rw [es] at fin
      exact fin
    · have es : tp_sl m (tp_c Bi.testBit dr d) = (tp_c Bi.testBit dr d + 1) / 2 := if_neg e
      rw [es] at fin
      show wX_draw_3_42 post _ (nI i) s (nI d) (nI (tp_c Bi.testBit dr d)) ((nI (tp_c Bi.testBit dr d) + 1) >>> ((1 : Int32) &&& 31)) (nI m) cp pr fk sk a1 a2 a3 a4 a5 a6 a7
      rw [nI_1, pk_shrN (by omega) _ 1 (by decide)]
      exact fin
theorem tp_good_3 {post : Int32 → St1 → Prop} {m p : Nat} {A Q : Nat → Nat} (hm : m = 1 ∨ m = 2) (hp : p < 128) (hA : tp_H a2 A 128)
    (hK : ∀ i j, i < 7 → j < 7 → (A i).testBit j = true → p.testBit i = true ∧ p.testBit j = true) (hQ : tp_H a4 Q 9)
    (H1 : tp_F m p.testBit (fun i j => (A i).testBit j) Q → ∀ b3 b5, post 1 (nI m, cp, nI p, fk, sk, a1, a2, b3, a4, b5, a6, a7))
    (H0 : ¬ tp_F m p.testBit (fun i j => (A i).testBit j) Q → ∀ b3 b5, post 0 (nI m, cp, nI p, fk, sk, a1, a2, b3, a4, b5, a6, a7)) :
    wpX_good_3 post (nI m, cp, nI p, fk, sk, a1, a2, a3, a4, a5, a6, a7) := by
  unfold wpX_good_3
  refine tp_close_3 hA (fun b3 B hB hW => ?_)
  have q9 : ∀ j, j < 7 → Q j < 9 := fun j hj => (hQ j hj).2
  have l79 : ∀ k o dr s5, (k = 7 ∨ o = 0) → tp_H s5 dr 9 → (∀ j, j < 7 → p.testBit j = true → dr j ≤ Q j) → (∀ τ, tp_S m p.testBit (fun i j => (A i).testBit j) Q τ → tp_GI m p B k o dr τ) →
      wX_good_3_79 post (nI m) cp (nI p) fk sk a1 a2 b3 a4 s5 a6 a7 := by
    intro k o dr s5 hx hdr hle hG
    unfold wX_good_3_79
    refine tp_disp (X := tp_F m p.testBit (fun i j => (A i).testBit j) Q) hm hp hA hdr ?_ (fun t σ hI hw => ⟨σ, tp_done hI hw hle⟩) (fun x => ⟨rfl, H1 x _ _⟩) (fun x => ⟨rfl, H0 x _ _⟩)
    rintro ⟨τ, hS⟩ t σ ht hI
    exact tp_Gx hm hS hW (hG τ hS) hx (fun j hj => (hdr j hj).2) ht hI
  have l32 : ∀ s5, tp_H s5 (fun _ => 0) 9 → ∃ n, wX_good_3_32 post n (nI p) (nI 0) (nI m) cp (nI p) fk sk a1 a2 b3 a4 s5 a6 a7 := by
    intro s5 hs5
    refine pk_loop (fun n k (s : Int32 × (Nat → Int32)) => wX_good_3_32 post n s.1 (nI k) (nI m) cp (nI p) fk sk a1 a2 b3 a4 s.2 a6 a7)
      (fun k s => ∃ o dr, o < 128 ∧ s.1 = nI o ∧ tp_H s.2 dr 9 ∧ (∀ j, j < 7 → p.testBit j = true → dr j ≤ Q j) ∧ (∀ τ, tp_S m p.testBit (fun i j => (A i).testBit j) Q τ → tp_GI m p B k o dr τ)) 7 0 (nI p, s5) (by omega)
      ⟨p, fun _ => 0, hp, rfl, hs5, fun j _ _ => Nat.zero_le _, fun τ _ => tp_G0⟩ ?_ ?_
    · rintro n ⟨s1, s2⟩ ⟨o, dr, ho, rfl, hdr, hle, hG⟩
      exact pk_le 7 7 (fun _ => l79 7 o dr s2 (Or.inl rfl) hdr hle hG) (fun z => absurd z (by omega))
    · rintro n k ⟨s1, s2⟩ hk7 ⟨o, dr, ho, rfl, hdr, hle, hG⟩ hk
      refine pk_le 7 k (fun z => absurd z (by omega)) (fun _ => pk_eq o 0 (fun e => l79 k o dr s2 (Or.inr e) hdr hle hG) (fun e => ?_))
      refine tp_wof ho hB (fun i hi hpick => ?_)
      refine tp_draw_3 hm hi (hB i hi).1 (hB i hi).2 hdr (hQ i hi).1 (hQ i hi).2 (fun v hV => ⟨pk_in i 7 hi, ?_⟩)
      rw [nI_clamp (show i < 2 ^ 31 by omega), pk_us]
      have vq := hV.2.1
      have qi := q9 i hi
      refine br_c (fun g => ?_) (fun g => H0 ?_ _ _)
      · rw [Int32.le_iff_toInt_le, Int32.toInt_one] at g
        obtain ⟨w, w1, wq, rfl, ew⟩ := tp_toNat g vq (by omega)
        refine nm_r (tp_clI i hi o ho) (nm_r (nI_1 k) (hk (nI (tp_cl o i), upd s2 i (nI w)) ⟨tp_cl o i, tp_up dr i w, tp_cl_lt i ho, rfl, tp_put hdr (by omega), fun j hj pj => ?_, fun τ hS => ?_⟩))
        · by_cases ej : j = i
          · rw [ej, tp_up_s]
            exact wq
          · rw [tp_up_n _ _ ej]
            exact hle j hj pj
        · obtain ⟨oi, bi⟩ := tp_Gpick hS hW hK q9 (hG τ hS) ho e hpick
          rw [ew] at hV
          exact tp_Gs hm hS hW hK (hG τ hS) ho hi oi bi hV
      · rintro ⟨τ, hS⟩
        obtain ⟨oi, bi⟩ := tp_Gpick hS hW hK q9 (hG τ hS) ho e hpick
        have := tp_Gv hm hS hW hK (hG τ hS) hi oi bi hV
        rw [Int32.le_iff_toInt_le, Int32.toInt_one] at g
        omega
  refine pk_loop (fun n k s => wX_good_3_6 post (nI m) cp (nI p) fk sk n (nI k) a1 a2 b3 a4 s a6 a7) (fun k s => ∀ j, j < k → s j = nI 0) 7 0 a5 (by omega) (fun j hj => absurd hj (by omega)) ?_ ?_
  · intro n s h
    exact pk_le 7 7 (fun _ => l32 s (fun j hj => ⟨h j hj, Nat.succ_pos 8⟩)) (fun z => absurd z (by omega))
  · intro n k s hk7 h hk
    exact pk_le 7 k (fun z => absurd z (by omega)) (fun _ => ⟨pk_in k 7 hk7, nm_e (nm_r (nI_1 k) (hk _ (tp_fill (f := fun _ => nI 0) (nI_clamp (by omega)) h rfl)))⟩)
end
end
section
/-! drawIn: the copy '' -/
section
variable {cp fk sk : Int32} {a1 a2 a3 a4 a5 a6 a7 : Nat → Int32}
theorem tp_drawIn {post : Int32 → St1 → Prop} {m p i : Nat} {A Q : Nat → Nat} (hm : m = 1 ∨ m = 2) (hp : p < 128) (hA : tp_H a2 A 128)
    (hK : ∀ i j, i < 7 → j < 7 → (A i).testBit j = true → p.testBit i = true ∧ p.testBit j = true) (hQ : tp_H a4 Q 9) (hi : i < 7) (pi : p.testBit i = true)
    (hF : tp_F m p.testBit (fun i j => (A i).testBit j) Q)
    (H : ∀ b3 b4 b5 v, v = tp_lv (fun d => tp_F m p.testBit (fun i j => (A i).testBit j) (tp_up Q i d)) → 1 ≤ v → v < 9 → tp_H b4 (tp_up Q i v) 9 → post (nI (v - 1)) (nI m, cp, nI p, fk, sk, a1, a2, b3, b4, b5, a6, a7)) :
    wpX_drawIn post (nI m, cp, nI p, fk, sk, a1, a2, a3, a4, a5, a6, a7) (nI i) := by
  obtain ⟨eq, q9⟩ := hQ i hi
  have q1 : 1 ≤ Q i := by
    obtain ⟨τ, s⟩ := hF
    have := s.1 i hi pi
    omega
  refine ⟨pk_in i 7 hi, nm_r (e' := nI (Q i)) (by rw [nI_clamp (by omega)]; exact eq) ?_⟩
  have done1 : ∀ b3 b4 b5 v, 1 ≤ v → v < 9 → tp_F m p.testBit (fun i j => (A i).testBit j) (tp_up Q i v) → (∀ e, 1 ≤ e → e < v → ¬ tp_F m p.testBit (fun i j => (A i).testBit j) (tp_up Q i e)) → tp_H b4 (tp_up Q i v) 9 →
      wX_drawIn_42 post (nI i) (nI (Q i)) 1 (nI m) cp (nI p) fk sk a1 a2 b3 b4 b5 a6 a7 := by
    intro b3 b4 b5 v v1 v9 fv lv hb
    refine br_f (by decide) ⟨pk_in i 7 hi, ?_⟩
    have ev : b4 (nI i).toNatClampNeg = nI v := by rw [nI_clamp (by omega), (hb i hi).1, tp_up_s]
    rw [ev, tp_m1 v1]
    exact H b3 b4 b5 v (tp_lv_eq v1 fv lv).symm v1 v9 hb
  have done0 : ∀ b3 b4 b5, (∀ e, 1 ≤ e → e < Q i → ¬ tp_F m p.testBit (fun i j => (A i).testBit j) (tp_up Q i e)) → (∀ j, j < 7 → j ≠ i → b4 j = nI (Q j)) →
      wX_drawIn_42 post (nI i) (nI (Q i)) 0 (nI m) cp (nI p) fk sk a1 a2 b3 b4 b5 a6 a7 := by
    intro b3 b4 b5 lv hb
    refine br_t rfl ⟨pk_in i 7 hi, nm_r (e' := upd b4 i (nI (Q i))) (by rw [nI_clamp (by omega), tp_by7 _ (by omega)]) ⟨pk_in i 7 hi, ?_⟩⟩
    rw [nI_clamp (show i < 2 ^ 31 by omega), pk_us, tp_m1 q1]
    refine H b3 _ b5 (Q i) (tp_lv_eq (Q := fun d => tp_F m p.testBit (fun i j => (A i).testBit j) (tp_up Q i d)) q1 (by rw [tp_up_self]; exact hF) lv).symm q1 q9 (fun j hj => ?_)
    rw [tp_up_self]
    by_cases e : j = i
    · rw [e, pk_us]
      exact ⟨rfl, q9⟩
    · rw [pk_un e]
      exact ⟨hb j hj e, (hQ j hj).2⟩
  refine Exists.elim (pk_loop (fun n d (s : Int32 × (Nat → Int32) × (Nat → Int32) × (Nat → Int32)) => wX_drawIn_12 post (nI i) (nI (Q i)) n s.1 (nI d) (nI m) cp (nI p) fk sk a1 a2 s.2.1 s.2.2.1 s.2.2.2 a6 a7)
    (fun d s => 1 ≤ d ∧ ∃ b3 b4 b5, (s = (0, b3, b4, b5) ∧ (∀ e, 1 ≤ e → e < d → ¬ tp_F m p.testBit (fun i j => (A i).testBit j) (tp_up Q i e)) ∧ ∀ j, j < 7 → j ≠ i → b4 j = nI (Q j)) ∨
      (s = (1, b3, b4, b5) ∧ ∃ v, d = v + 1 ∧ 1 ≤ v ∧ tp_F m p.testBit (fun i j => (A i).testBit j) (tp_up Q i v) ∧ (∀ e, 1 ≤ e → e < v → ¬ tp_F m p.testBit (fun i j => (A i).testBit j) (tp_up Q i e)) ∧ tp_H b4 (tp_up Q i v) 9)) (Q i) 1 (0, a3, a4, a5) q1 ?_ ?_ ?_) (fun n h => ⟨n, h⟩)
  · exact ⟨Nat.le_refl _, a3, a4, a5, Or.inl ⟨rfl, fun e h1 h2 => absurd h2 (by omega), fun j hj _ => (hQ j hj).1⟩⟩
  · rintro n s ⟨d1, b3, b4, b5, ⟨rfl, h1, h2⟩ | ⟨rfl, v, hv, v1, h2, h3, h4⟩⟩
    · exact pk_le (Q i) (Q i) (fun _ => done0 b3 b4 b5 h1 h2) (fun z => absurd z (by omega))
    · exact pk_le (Q i) (Q i) (fun _ => done1 b3 b4 b5 v v1 (by omega) h2 h3 h4) (fun z => absurd z (by omega))
  · rintro n d s hd ⟨d1, b3, b4, b5, ⟨rfl, h1, h2⟩ | ⟨rfl, v, hv, v1, h2, h3, h4⟩⟩ hk
    · have hd' : tp_H (upd b4 i (nI d)) (tp_up Q i d) 9 := by
        intro j hj
        by_cases e : j = i
        · rw [e, pk_us, tp_up_s]
          exact ⟨rfl, by omega⟩
        · rw [pk_un e, tp_up_n _ _ e]
          exact ⟨h2 j hj e, (hQ j hj).2⟩
      refine pk_le (Q i) d (fun z => absurd z (by omega)) (fun _ => br_t rfl ⟨pk_in i 7 hi, nm_r (e' := upd b4 i (nI d)) (by rw [nI_clamp (by omega), tp_by7 d (by omega)]) ?_⟩)
      refine tp_good_2 hm hp hA hK hd' (fun f c3 c5 => nm_r (nI_1 d) (hk (1, c3, upd b4 i (nI d), c5) ⟨by omega, c3, _, c5, Or.inr ⟨rfl, d, rfl, d1, f, h1, hd'⟩⟩)) (fun f c3 c5 => nm_r (nI_1 d) (hk (0, c3, upd b4 i (nI d), c5) ⟨by omega, c3, _, c5, Or.inl ⟨rfl, fun e e1 e2 => ?_, fun j hj e => ?_⟩⟩))
      · rcases Nat.lt_or_ge e d with z | z
        · exact h1 e e1 z
        · have ee : e = d := by omega
          rw [ee]
          exact f
      · rw [pk_un e]
        exact h2 j hj e
    · exact pk_le (Q i) d (fun z => absurd z (by omega)) (fun _ => br_f (show ¬ (1 : Int32) = 0 by decide) (done1 b3 b4 b5 v v1 (by omega) h2 h3 h4))
end
end
section
/-! drawIn: the copy '_2' -/
section
variable {cp fk sk : Int32} {a1 a2 a3 a4 a5 a6 a7 : Nat → Int32}
theorem tp_drawIn_2 {post : Int32 → St1 → Prop} {m p i : Nat} {A Q : Nat → Nat} (hm : m = 1 ∨ m = 2) (hp : p < 128) (hA : tp_H a2 A 128)
    (hK : ∀ i j, i < 7 → j < 7 → (A i).testBit j = true → p.testBit i = true ∧ p.testBit j = true) (hQ : tp_H a4 Q 9) (hi : i < 7) (pi : p.testBit i = true)
    (hF : tp_F m p.testBit (fun i j => (A i).testBit j) Q)
    (H : ∀ b3 b4 b5 v, v = tp_lv (fun d => tp_F m p.testBit (fun i j => (A i).testBit j) (tp_up Q i d)) → 1 ≤ v → v < 9 → tp_H b4 (tp_up Q i v) 9 → post (nI (v - 1)) (nI m, cp, nI p, fk, sk, a1, a2, b3, b4, b5, a6, a7)) :
    wpX_drawIn_2 post (nI m, cp, nI p, fk, sk, a1, a2, a3, a4, a5, a6, a7) (nI i) := by
  obtain ⟨eq, q9⟩ := hQ i hi
  have q1 : 1 ≤ Q i := by
    obtain ⟨τ, s⟩ := hF
    have := s.1 i hi pi
    omega
  refine ⟨pk_in i 7 hi, nm_r (e' := nI (Q i)) (by rw [nI_clamp (by omega)]; exact eq) ?_⟩
  have done1 : ∀ b3 b4 b5 v, 1 ≤ v → v < 9 → tp_F m p.testBit (fun i j => (A i).testBit j) (tp_up Q i v) → (∀ e, 1 ≤ e → e < v → ¬ tp_F m p.testBit (fun i j => (A i).testBit j) (tp_up Q i e)) → tp_H b4 (tp_up Q i v) 9 →
      wX_drawIn_2_42 post (nI i) (nI (Q i)) 1 (nI m) cp (nI p) fk sk a1 a2 b3 b4 b5 a6 a7 := by
    intro b3 b4 b5 v v1 v9 fv lv hb
    refine br_f (by decide) ⟨pk_in i 7 hi, ?_⟩
    have ev : b4 (nI i).toNatClampNeg = nI v := by rw [nI_clamp (by omega), (hb i hi).1, tp_up_s]
    rw [ev, tp_m1 v1]
    exact H b3 b4 b5 v (tp_lv_eq v1 fv lv).symm v1 v9 hb
  have done0 : ∀ b3 b4 b5, (∀ e, 1 ≤ e → e < Q i → ¬ tp_F m p.testBit (fun i j => (A i).testBit j) (tp_up Q i e)) → (∀ j, j < 7 → j ≠ i → b4 j = nI (Q j)) →
      wX_drawIn_2_42 post (nI i) (nI (Q i)) 0 (nI m) cp (nI p) fk sk a1 a2 b3 b4 b5 a6 a7 := by
    intro b3 b4 b5 lv hb
    refine br_t rfl ⟨pk_in i 7 hi, nm_r (e' := upd b4 i (nI (Q i))) (by rw [nI_clamp (by omega), tp_by7 _ (by omega)]) ⟨pk_in i 7 hi, ?_⟩⟩
    rw [nI_clamp (show i < 2 ^ 31 by omega), pk_us, tp_m1 q1]
    refine H b3 _ b5 (Q i) (tp_lv_eq (Q := fun d => tp_F m p.testBit (fun i j => (A i).testBit j) (tp_up Q i d)) q1 (by rw [tp_up_self]; exact hF) lv).symm q1 q9 (fun j hj => ?_)
    rw [tp_up_self]
    by_cases e : j = i
    · rw [e, pk_us]
      exact ⟨rfl, q9⟩
    · rw [pk_un e]
      exact ⟨hb j hj e, (hQ j hj).2⟩
  refine Exists.elim (pk_loop (fun n d (s : Int32 × (Nat → Int32) × (Nat → Int32) × (Nat → Int32)) => wX_drawIn_2_12 post (nI i) (nI (Q i)) n s.1 (nI d) (nI m) cp (nI p) fk sk a1 a2 s.2.1 s.2.2.1 s.2.2.2 a6 a7)
    (fun d s => 1 ≤ d ∧ ∃ b3 b4 b5, (s = (0, b3, b4, b5) ∧ (∀ e, 1 ≤ e → e < d → ¬ tp_F m p.testBit (fun i j => (A i).testBit j) (tp_up Q i e)) ∧ ∀ j, j < 7 → j ≠ i → b4 j = nI (Q j)) ∨
      (s = (1, b3, b4, b5) ∧ ∃ v, d = v + 1 ∧ 1 ≤ v ∧ tp_F m p.testBit (fun i j => (A i).testBit j) (tp_up Q i v) ∧ (∀ e, 1 ≤ e → e < v → ¬ tp_F m p.testBit (fun i j => (A i).testBit j) (tp_up Q i e)) ∧ tp_H b4 (tp_up Q i v) 9)) (Q i) 1 (0, a3, a4, a5) q1 ?_ ?_ ?_) (fun n h => ⟨n, h⟩)
  · exact ⟨Nat.le_refl _, a3, a4, a5, Or.inl ⟨rfl, fun e h1 h2 => absurd h2 (by omega), fun j hj _ => (hQ j hj).1⟩⟩
  · rintro n s ⟨d1, b3, b4, b5, ⟨rfl, h1, h2⟩ | ⟨rfl, v, hv, v1, h2, h3, h4⟩⟩
    · exact pk_le (Q i) (Q i) (fun _ => done0 b3 b4 b5 h1 h2) (fun z => absurd z (by omega))
    · exact pk_le (Q i) (Q i) (fun _ => done1 b3 b4 b5 v v1 (by omega) h2 h3 h4) (fun z => absurd z (by omega))
  · rintro n d s hd ⟨d1, b3, b4, b5, ⟨rfl, h1, h2⟩ | ⟨rfl, v, hv, v1, h2, h3, h4⟩⟩ hk
    · have hd' : tp_H (upd b4 i (nI d)) (tp_up Q i d) 9 := by
        intro j hj
        by_cases e : j = i
        · rw [e, pk_us, tp_up_s]
          exact ⟨rfl, by omega⟩
        · rw [pk_un e, tp_up_n _ _ e]
          exact ⟨h2 j hj e, (hQ j hj).2⟩
      refine pk_le (Q i) d (fun z => absurd z (by omega)) (fun _ => br_t rfl ⟨pk_in i 7 hi, nm_r (e' := upd b4 i (nI d)) (by rw [nI_clamp (by omega), tp_by7 d (by omega)]) ?_⟩)
      refine tp_good_3 hm hp hA hK hd' (fun f c3 c5 => nm_r (nI_1 d) (hk (1, c3, upd b4 i (nI d), c5) ⟨by omega, c3, _, c5, Or.inr ⟨rfl, d, rfl, d1, f, h1, hd'⟩⟩)) (fun f c3 c5 => nm_r (nI_1 d) (hk (0, c3, upd b4 i (nI d), c5) ⟨by omega, c3, _, c5, Or.inl ⟨rfl, fun e e1 e2 => ?_, fun j hj e => ?_⟩⟩))
      · rcases Nat.lt_or_ge e d with z | z
        · exact h1 e e1 z
        · have ee : e = d := by omega
          rw [ee]
          exact f
      · rw [pk_un e]
        exact h2 j hj e
    · exact pk_le (Q i) d (fun z => absurd z (by omega)) (fun _ => br_f (show ¬ (1 : Int32) = 0 by decide) (done1 b3 b4 b5 v v1 (by omega) h2 h3 h4))
end
end
section
/-! drawIn: the copy '_3' -/
section
variable {cp fk sk : Int32} {a1 a2 a3 a4 a5 a6 a7 : Nat → Int32}
theorem tp_drawIn_3 {post : Int32 → St1 → Prop} {m p i : Nat} {A Q : Nat → Nat} (hm : m = 1 ∨ m = 2) (hp : p < 128) (hA : tp_H a2 A 128)
    (hK : ∀ i j, i < 7 → j < 7 → (A i).testBit j = true → p.testBit i = true ∧ p.testBit j = true) (hQ : tp_H a4 Q 9) (hi : i < 7) (pi : p.testBit i = true)
    (hF : tp_F m p.testBit (fun i j => (A i).testBit j) Q)
    (H : ∀ b3 b4 b5 v, v = tp_lv (fun d => tp_F m p.testBit (fun i j => (A i).testBit j) (tp_up Q i d)) → 1 ≤ v → v < 9 → tp_H b4 (tp_up Q i v) 9 → post (nI (v - 1)) (nI m, cp, nI p, fk, sk, a1, a2, b3, b4, b5, a6, a7)) :
    wpX_drawIn_3 post (nI m, cp, nI p, fk, sk, a1, a2, a3, a4, a5, a6, a7) (nI i) := by
  obtain ⟨eq, q9⟩ := hQ i hi
  have q1 : 1 ≤ Q i := by
    obtain ⟨τ, s⟩ := hF
    have := s.1 i hi pi
    omega
  refine ⟨pk_in i 7 hi, nm_r (e' := nI (Q i)) (by rw [nI_clamp (by omega)]; exact eq) ?_⟩
  have done1 : ∀ b3 b4 b5 v, 1 ≤ v → v < 9 → tp_F m p.testBit (fun i j => (A i).testBit j) (tp_up Q i v) → (∀ e, 1 ≤ e → e < v → ¬ tp_F m p.testBit (fun i j => (A i).testBit j) (tp_up Q i e)) → tp_H b4 (tp_up Q i v) 9 →
      wX_drawIn_3_42 post (nI i) (nI (Q i)) 1 (nI m) cp (nI p) fk sk a1 a2 b3 b4 b5 a6 a7 := by
    intro b3 b4 b5 v v1 v9 fv lv hb
    refine br_f (by decide) ⟨pk_in i 7 hi, ?_⟩
    have ev : b4 (nI i).toNatClampNeg = nI v := by rw [nI_clamp (by omega), (hb i hi).1, tp_up_s]
    rw [ev, tp_m1 v1]
    exact H b3 b4 b5 v (tp_lv_eq v1 fv lv).symm v1 v9 hb
  have done0 : ∀ b3 b4 b5, (∀ e, 1 ≤ e → e < Q i → ¬ tp_F m p.testBit (fun i j => (A i).testBit j) (tp_up Q i e)) → (∀ j, j < 7 → j ≠ i → b4 j = nI (Q j)) →
      wX_drawIn_3_42 post (nI i) (nI (Q i)) 0 (nI m) cp (nI p) fk sk a1 a2 b3 b4 b5 a6 a7 := by
    intro b3 b4 b5 lv hb
    refine br_t rfl ⟨pk_in i 7 hi, nm_r (e' := upd b4 i (nI (Q i))) (by rw [nI_clamp (by omega), tp_by7 _ (by omega)]) ⟨pk_in i 7 hi, ?_⟩⟩
    rw [nI_clamp (show i < 2 ^ 31 by omega), pk_us, tp_m1 q1]
    refine H b3 _ b5 (Q i) (tp_lv_eq (Q := fun d => tp_F m p.testBit (fun i j => (A i).testBit j) (tp_up Q i d)) q1 (by rw [tp_up_self]; exact hF) lv).symm q1 q9 (fun j hj => ?_)
    rw [tp_up_self]
    by_cases e : j = i
    · rw [e, pk_us]
      exact ⟨rfl, q9⟩
    · rw [pk_un e]
      exact ⟨hb j hj e, (hQ j hj).2⟩
  refine Exists.elim (pk_loop (fun n d (s : Int32 × (Nat → Int32) × (Nat → Int32) × (Nat → Int32)) => wX_drawIn_3_12 post (nI i) (nI (Q i)) n s.1 (nI d) (nI m) cp (nI p) fk sk a1 a2 s.2.1 s.2.2.1 s.2.2.2 a6 a7)
    (fun d s => 1 ≤ d ∧ ∃ b3 b4 b5, (s = (0, b3, b4, b5) ∧ (∀ e, 1 ≤ e → e < d → ¬ tp_F m p.testBit (fun i j => (A i).testBit j) (tp_up Q i e)) ∧ ∀ j, j < 7 → j ≠ i → b4 j = nI (Q j)) ∨
      (s = (1, b3, b4, b5) ∧ ∃ v, d = v + 1 ∧ 1 ≤ v ∧ tp_F m p.testBit (fun i j => (A i).testBit j) (tp_up Q i v) ∧ (∀ e, 1 ≤ e → e < v → ¬ tp_F m p.testBit (fun i j => (A i).testBit j) (tp_up Q i e)) ∧ tp_H b4 (tp_up Q i v) 9)) (Q i) 1 (0, a3, a4, a5) q1 ?_ ?_ ?_) (fun n h => ⟨n, h⟩)
  · exact ⟨Nat.le_refl _, a3, a4, a5, Or.inl ⟨rfl, fun e h1 h2 => absurd h2 (by omega), fun j hj _ => (hQ j hj).1⟩⟩
  · rintro n s ⟨d1, b3, b4, b5, ⟨rfl, h1, h2⟩ | ⟨rfl, v, hv, v1, h2, h3, h4⟩⟩
    · exact pk_le (Q i) (Q i) (fun _ => done0 b3 b4 b5 h1 h2) (fun z => absurd z (by omega))
    · exact pk_le (Q i) (Q i) (fun _ => done1 b3 b4 b5 v v1 (by omega) h2 h3 h4) (fun z => absurd z (by omega))
  · rintro n d s hd ⟨d1, b3, b4, b5, ⟨rfl, h1, h2⟩ | ⟨rfl, v, hv, v1, h2, h3, h4⟩⟩ hk
    · have hd' : tp_H (upd b4 i (nI d)) (tp_up Q i d) 9 := by
        intro j hj
        by_cases e : j = i
        · rw [e, pk_us, tp_up_s]
          exact ⟨rfl, by omega⟩
        · rw [pk_un e, tp_up_n _ _ e]
          exact ⟨h2 j hj e, (hQ j hj).2⟩
      refine pk_le (Q i) d (fun z => absurd z (by omega)) (fun _ => br_t rfl ⟨pk_in i 7 hi, nm_r (e' := upd b4 i (nI d)) (by rw [nI_clamp (by omega), tp_by7 d (by omega)]) ?_⟩)
      refine tp_good hm hp hA hK hd' (fun f c3 c5 => nm_r (nI_1 d) (hk (1, c3, upd b4 i (nI d), c5) ⟨by omega, c3, _, c5, Or.inr ⟨rfl, d, rfl, d1, f, h1, hd'⟩⟩)) (fun f c3 c5 => nm_r (nI_1 d) (hk (0, c3, upd b4 i (nI d), c5) ⟨by omega, c3, _, c5, Or.inl ⟨rfl, fun e e1 e2 => ?_, fun j hj e => ?_⟩⟩))
      · rcases Nat.lt_or_ge e d with z | z
        · exact h1 e e1 z
        · have ee : e = d := by omega
          rw [ee]
          exact f
      · rw [pk_un e]
        exact h2 j hj e
    · exact pk_le (Q i) d (fun z => absurd z (by omega)) (fun _ => br_f (show ¬ (1 : Int32) = 0 by decide) (done1 b3 b4 b5 v v1 (by omega) h2 h3 h4))
end
end
section
/-! the picture of the object, and its questions -/
def tp_T (m cap p : Nat) (A D : Nat → Nat) : Prop :=
  (m = 1 ∨ m = 2) ∧ p < 128 ∧ cap ≤ 7 ∧ (∀ j, j < 7 → p.testBit j = true → j < cap) ∧
  (∀ i j, i < 7 → j < 7 → (A i).testBit j = true → p.testBit i = true ∧ p.testBit j = true) ∧ tp_F m p.testBit (fun i j => (A i).testBit j) D
noncomputable def tp_sp (m p : Nat) (A D : Nat → Nat) : Nat := if p = 0 then 0 else tp_lv (fun l => tp_F m p.testBit (fun i j => (A i).testBit j) (fun j => min (D j) l))
noncomputable def tp_g (m p : Nat) (A D : Nat → Nat) (l : Nat) : Nat → Nat := tp_gr (tp_F m p.testBit (fun i j => (A i).testBit j)) p.testBit (fun j => min (D j) l) 7
theorem tp_F8 {m p : Nat} {A D : Nat → Nat} (hD : ∀ j, j < 7 → D j < 9) (h : tp_F m p.testBit (fun i j => (A i).testBit j) D) : tp_F m p.testBit (fun i j => (A i).testBit j) (fun j => min (D j) 8) :=
  tp_F_mono (fun i hi _ => by have := hD i hi; omega) h
theorem tp_F8' {m p : Nat} {A D : Nat → Nat} (h : tp_F m p.testBit (fun i j => (A i).testBit j) (fun j => min (D j) 8)) : tp_F m p.testBit (fun i j => (A i).testBit j) D :=
  tp_F_mono (fun i hi _ => Nat.min_le_left _ _) h
/-- a present task: the span is 1..8, and with it as the limit there is a timetable -/
theorem tp_sp_ok {m p : Nat} {A D : Nat → Nat} (hD : ∀ j, j < 7 → D j < 9) (h : tp_F m p.testBit (fun i j => (A i).testBit j) D) (h0 : p ≠ 0) :
    1 ≤ tp_sp m p A D ∧ tp_sp m p A D ≤ 8 ∧ tp_F m p.testBit (fun i j => (A i).testBit j) (fun j => min (D j) (tp_sp m p A D)) := by
  unfold tp_sp
  rw [if_neg h0]
  have l := tp_lv_ok (Q := fun l => tp_F m p.testBit (fun i j => (A i).testBit j) (fun j => min (D j) l)) (d := 8) (by omega) (tp_F8 hD h)
  exact ⟨l.1, l.2.2.2, l.2.1⟩
theorem tp_p0 {p x : Nat} (px : p.testBit x = true) : p ≠ 0 := by
  intro e
  rw [e, Nat.zero_testBit] at px
  exact absurd px (by decide)
section
variable {cp fk sk : Int32} {a1 a2 a3 a4 a5 a6 a7 : Nat → Int32}
theorem tp_span {post : Int32 → St1 → Prop} {m p : Nat} {A D : Nat → Nat} (hm : m = 1 ∨ m = 2) (hp : p < 128) (hA : tp_H a2 A 128)
    (hK : ∀ i j, i < 7 → j < 7 → (A i).testBit j = true → p.testBit i = true ∧ p.testBit j = true) (hD : tp_H a1 D 9) (hF : tp_F m p.testBit (fun i j => (A i).testBit j) D)
    (H : ∀ b3 b4 b5, post (nI (tp_sp m p A D)) (nI m, cp, nI p, fk, sk, a1, a2, b3, b4, b5, a6, a7)) : wpX_span post (nI m, cp, nI p, fk, sk, a1, a2, a3, a4, a5, a6, a7) := by
  have hD9 : ∀ j, j < 7 → D j < 9 := fun j hj => (hD j hj).2
  unfold tp_sp at H
  refine pk_eq p 0 (fun e => ?_) (fun e => ?_)
  · rw [if_pos e] at H
    exact H a3 a4 a5
  · rw [if_neg e] at H
    refine Exists.elim (pk_loop (fun n l (s : (Nat → Int32) × (Nat → Int32) × (Nat → Int32)) => wX_span_11 post n (nI l) (nI m) cp (nI p) fk sk a1 a2 s.1 s.2.1 s.2.2 a6 a7)
      (fun l s => 1 ≤ l ∧ ∀ e, 1 ≤ e → e < l → ¬ tp_F m p.testBit (fun i j => (A i).testBit j) (fun j => min (D j) e)) 9 1 (a3, a4, a5) (by omega) ⟨by omega, fun e h1 h2 => absurd h2 (by omega)⟩ ?_ ?_) (fun n h => ⟨n, h⟩)
    · rintro n s ⟨_, h⟩
      exact absurd (tp_F8 hD9 hF) (h 8 (by omega) (by omega))
    · rintro n l ⟨b3, b4, b5⟩ hl ⟨l1, h⟩ hk
      refine pk_lt 8 l (fun z => absurd z (by omega)) (fun _ => tp_ask (by omega) hD (fun b4 hb => ?_))
      refine tp_good hm hp hA hK hb (fun f c3 c5 => br_f (by decide) ?_) (fun f c3 c5 => br_t rfl (nm_r (nI_1 l) (hk (c3, b4, c5) ⟨by omega, fun e e1 e2 => ?_⟩)))
      · have g := H c3 b4 c5
        rw [tp_lv_eq (Q := fun l => tp_F m p.testBit (fun i j => (A i).testBit j) (fun j => min (D j) l)) l1 f h] at g
        exact g
      · rcases Nat.lt_or_ge e l with z | z
        · exact h e e1 z
        · have ee : e = l := by omega
          rw [ee]
          exact f
def tp_val (g : Nat → Nat) (p x : Nat) : Int32 := if p.testBit x = true then nI (g x - 1) else -1
def tp_kn (f : Int32) (a : Nat → Int32) (g : Nat → Nat) (p : Nat) : Prop := f = 0 ∨ (f = 1 ∧ ∀ j, j < 7 → p.testBit j = true → a j = nI (g j - 1))
theorem tp_slotOf {post : Int32 → St1 → Prop} {m cap p x : Nat} {A D : Nat → Nat} (hT : tp_T m cap p A D) (hD : tp_H a1 D 9) (hA : tp_H a2 A 128) (hx : x < 7) (hf : tp_kn fk a6 (tp_g m p A D 8) p)
    (H : ∀ f b3 b4 b5 b6, tp_kn f b6 (tp_g m p A D 8) p → post (tp_val (tp_g m p A D 8) p x) (nI m, nI cap, nI p, f, sk, a1, a2, b3, b4, b5, b6, a7)) :
    wpX_slotOf post (nI m, nI cap, nI p, fk, sk, a1, a2, a3, a4, a5, a6, a7) (nI x) := by
  obtain ⟨hm, hp, hc, hpc, hK, hF⟩ := hT
  have hD9 : ∀ j, j < 7 → D j < 9 := fun j hj => (hD j hj).2
  have F8 := tp_F8 hD9 hF
  unfold tp_val at H
  unfold wpX_slotOf
  refine tp_holds hp hc (by omega) hpc (fun _ px => br_f (by decide) ?_) (fun px => br_t rfl ?_)
  · rw [if_pos px] at H
    rcases hf with rfl | ⟨rfl, hv⟩
    · refine br_t rfl (tp_ask (l := 8) (by omega) hD (fun b4 hb => ?_))
      refine Exists.elim (pk_loop (fun n i (s : (Nat → Int32) × (Nat → Int32) × (Nat → Int32) × (Nat → Int32)) => wX_slotOf_30 post (nI x) n (nI i) (nI m) (nI cap) (nI p) 1 sk a1 a2 s.1 s.2.1 s.2.2.1 s.2.2.2 a7)
        (fun i s => tp_H s.2.1 (tp_gr (tp_F m p.testBit (fun i j => (A i).testBit j)) p.testBit (fun j => min (D j) 8) i) 9 ∧ ∀ j, j < i → p.testBit j = true → s.2.2.2 j = nI (tp_g m p A D 8 j - 1)) cap 0 (a3, b4, a5, a6) (by omega) ⟨hb, fun j hj => absurd hj (by omega)⟩ ?_ ?_) (fun n h => ⟨n, h⟩)
      · rintro n ⟨b3, b4, b5, b6⟩ ⟨h4, h6⟩
        have h6' : ∀ j, j < 7 → p.testBit j = true → b6 j = nI (tp_g m p A D 8 j - 1) := fun j hj pj => h6 j (hpc j hj pj) pj
        refine pk_le cap cap (fun _ => ⟨pk_in x 7 hx, ?_⟩) (fun z => absurd z (by omega))
        have g := H 1 b3 b4 b5 b6 (Or.inr ⟨rfl, h6'⟩)
        rw [← h6' x hx px] at g
        dsimp only
        rw [nI_clamp (show x < 2 ^ 31 by omega)]
        exact g
      · rintro n i ⟨b3, b4, b5, b6⟩ hi ⟨h4, h6⟩ hk
        refine pk_le cap i (fun z => absurd z (by omega)) (fun _ => tp_holds hp hc (by omega) hpc (fun i7 pi => br_f (by decide) ?_) (fun pi => br_t rfl (nm_r (nI_1 i) (hk (b3, b4, b5, b6) ⟨?_, lt_s h6 (fun t => ?_)⟩))))
        · refine tp_drawIn hm hp hA hK h4 i7 pi (tp_gr_F F8 i (by omega)) (fun c3 c4 c5 v ev v1 v9 hc4 => ⟨pk_in i 7 i7, nm_r (e' := upd b6 i (nI (v - 1))) (by rw [nI_clamp (by omega), tp_by7 _ (by omega)]) (nm_r (nI_1 i) (hk (c3, c4, c5, upd b6 i (nI (v - 1))) ⟨?_, fun j hj pj => ?_⟩))⟩)
          · rw [tp_gr_t pi, ← ev]
            exact hc4
          · dsimp only
            by_cases e : j = i
            · rw [e, pk_us]
              unfold tp_g
              rw [tp_gr_st 7 i7, tp_gr_t pi, tp_up_s, ← ev]
            · rw [pk_un e]
              exact h6 j (by omega) pj
        · rw [tp_gr_f (by rw [pi]; decide)]
          exact h4
        · rw [pi] at t
          exact absurd t (by decide)
    · refine br_f (by decide) ⟨pk_in x 7 hx, ?_⟩
      have g := H 1 a3 a4 a5 a6 (Or.inr ⟨rfl, hv⟩)
      rw [← hv x hx px] at g
      rw [nI_clamp (show x < 2 ^ 31 by omega)]
      exact g
  · rw [if_neg (by rw [px]; decide)] at H
    exact H fk a3 a4 a5 a6 hf
theorem tp_shortOf {post : Int32 → St1 → Prop} {m cap p x : Nat} {A D : Nat → Nat} (hT : tp_T m cap p A D) (hD : tp_H a1 D 9) (hA : tp_H a2 A 128) (hx : x < 7) (hf : tp_kn sk a7 (tp_g m p A D (tp_sp m p A D)) p)
    (H : ∀ f b3 b4 b5 b7, tp_kn f b7 (tp_g m p A D (tp_sp m p A D)) p → post (tp_val (tp_g m p A D (tp_sp m p A D)) p x) (nI m, nI cap, nI p, fk, f, a1, a2, b3, b4, b5, a6, b7)) :
    wpX_shortSlotOf post (nI m, nI cap, nI p, fk, sk, a1, a2, a3, a4, a5, a6, a7) (nI x) := by
  obtain ⟨hm, hp, hc, hpc, hK, hF⟩ := hT
  have hD9 : ∀ j, j < 7 → D j < 9 := fun j hj => (hD j hj).2
  unfold tp_val at H
  unfold wpX_shortSlotOf
  refine tp_holds hp hc (by omega) hpc (fun _ px => br_f (by decide) ?_) (fun px => br_t rfl ?_)
  · rw [if_pos px] at H
    obtain ⟨l1, l8, FL⟩ := tp_sp_ok hD9 hF (tp_p0 px)
    rcases hf with rfl | ⟨rfl, hv⟩
    · refine br_t rfl (tp_span hm hp hA hK hD hF (fun b3 b4 b5 => ?_))
      refine tp_ask (l := tp_sp m p A D) l8 hD (fun b4 hb => ?_)
      refine Exists.elim (pk_loop (fun n i (s : (Nat → Int32) × (Nat → Int32) × (Nat → Int32) × (Nat → Int32)) => wX_shortSlotOf_34 post (nI x) n (nI i) (nI m) (nI cap) (nI p) fk 1 a1 a2 s.1 s.2.1 s.2.2.1 a6 s.2.2.2)
        (fun i s => tp_H s.2.1 (tp_gr (tp_F m p.testBit (fun i j => (A i).testBit j)) p.testBit (fun j => min (D j) (tp_sp m p A D)) i) 9 ∧ ∀ j, j < i → p.testBit j = true → s.2.2.2 j = nI (tp_g m p A D (tp_sp m p A D) j - 1)) cap 0 (b3, b4, b5, a7) (by omega) ⟨hb, fun j hj => absurd hj (by omega)⟩ ?_ ?_) (fun n h => ⟨n, h⟩)
      · rintro n ⟨b3, b4, b5, b6⟩ ⟨h4, h6⟩
        have h6' : ∀ j, j < 7 → p.testBit j = true → b6 j = nI (tp_g m p A D (tp_sp m p A D) j - 1) := fun j hj pj => h6 j (hpc j hj pj) pj
        refine pk_le cap cap (fun _ => ⟨pk_in x 7 hx, ?_⟩) (fun z => absurd z (by omega))
        have g := H 1 b3 b4 b5 b6 (Or.inr ⟨rfl, h6'⟩)
        rw [← h6' x hx px] at g
        dsimp only
        rw [nI_clamp (show x < 2 ^ 31 by omega)]
        exact g
      · rintro n i ⟨b3, b4, b5, b6⟩ hi ⟨h4, h6⟩ hk
        refine pk_le cap i (fun z => absurd z (by omega)) (fun _ => tp_holds hp hc (by omega) hpc (fun i7 pi => br_f (by decide) ?_) (fun pi => br_t rfl (nm_r (nI_1 i) (hk (b3, b4, b5, b6) ⟨?_, lt_s h6 (fun t => ?_)⟩))))
        · refine tp_drawIn_2 hm hp hA hK h4 i7 pi (tp_gr_F FL i (by omega)) (fun c3 c4 c5 v ev v1 v9 hc4 => ⟨pk_in i 7 i7, nm_r (e' := upd b6 i (nI (v - 1))) (by rw [nI_clamp (by omega), tp_by7 _ (by omega)]) (nm_r (nI_1 i) (hk (c3, c4, c5, upd b6 i (nI (v - 1))) ⟨?_, fun j hj pj => ?_⟩))⟩)
          · rw [tp_gr_t pi, ← ev]
            exact hc4
          · dsimp only
            by_cases e : j = i
            · rw [e, pk_us]
              unfold tp_g
              rw [tp_gr_st 7 i7, tp_gr_t pi, tp_up_s, ← ev]
            · rw [pk_un e]
              exact h6 j (by omega) pj
        · rw [tp_gr_f (by rw [pi]; decide)]
          exact h4
        · rw [pi] at t
          exact absurd t (by decide)
    · refine br_f (by decide) ⟨pk_in x 7 hx, ?_⟩
      have g := H 1 a3 a4 a5 a7 (Or.inr ⟨rfl, hv⟩)
      rw [← hv x hx px] at g
      rw [nI_clamp (show x < 2 ^ 31 by omega)]
      exact g
  · rw [if_neg (by rw [px]; decide)] at H
    exact H sk a3 a4 a5 a7 hf
theorem tp_early {post : Int32 → St1 → Prop} {m cap p x : Nat} {A D : Nat → Nat} (hT : tp_T m cap p A D) (hD : tp_H a1 D 9) (hA : tp_H a2 A 128) (hx : x < 7) (px : p.testBit x = true)
    (H : ∀ b3 b4 b5, post (nI (tp_lv (fun d => tp_F m p.testBit (fun i j => (A i).testBit j) (tp_up (fun j => min (D j) 8) x d)) - 1)) (nI m, nI cap, nI p, fk, sk, a1, a2, b3, b4, b5, a6, a7)) :
    wpX_earliest post (nI m, nI cap, nI p, fk, sk, a1, a2, a3, a4, a5, a6, a7) (nI x) := by
  obtain ⟨hm, hp, hc, hpc, hK, hF⟩ := hT
  have hD9 : ∀ j, j < 7 → D j < 9 := fun j hj => (hD j hj).2
  unfold wpX_earliest
  refine tp_holds hp hc (by omega) hpc (fun _ px => br_f (by decide) (tp_ask (l := 8) (by omega) hD (fun b4 hb => ?_))) (fun px' => by rw [px] at px'; exact absurd px' (by decide))
  exact tp_drawIn_3 hm hp hA hK hb hx px (tp_F8 hD9 hF) (fun c3 c4 c5 v ev v1 v9 hc4 => by rw [ev]; exact H c3 c4 c5)
theorem tp_dead {post : Int32 → Prop} {mh : Int32} {cap p x : Nat} {D : Nat → Nat} (hp : p < 128) (hc : cap ≤ 7) (hpc : ∀ j, j < 7 → p.testBit j = true → j < cap) (hD : tp_H a1 D 9) (hx : x < 7)
    (H1 : p.testBit x = true → post (nI (D x))) (H0 : p.testBit x = false → post (-1)) : wpX_deadline post (mh, nI cap, nI p, fk, sk, a1, a2, a3, a4, a5, a6, a7) (nI x) := by
  unfold wpX_deadline
  refine tp_holds hp hc (by omega) hpc (fun _ px => br_f (by decide) ⟨pk_in x 7 hx, ?_⟩) (fun px => br_t rfl (H0 px))
  rw [nI_clamp (show x < 2 ^ 31 by omega), (hD x hx).1]
  exact H1 px
theorem tp_linked {post : Int32 → Prop} {mh : Int32} {cap p i j : Nat} {A : Nat → Nat} (hp : p < 128) (hc : cap ≤ 7) (hpc : ∀ j, j < 7 → p.testBit j = true → j < cap) (hA : tp_H a2 A 128)
    (hK : ∀ i j, i < 7 → j < 7 → (A i).testBit j = true → p.testBit i = true ∧ p.testBit j = true) (hi : i < 8) (hj : j < 8)
    (H1 : i < 7 → j < 7 → (A i).testBit j = true → post 1) (H0 : (i < 7 → j < 7 → (A i).testBit j = false) → post 0) : wpX_linked post (mh, nI cap, nI p, fk, sk, a1, a2, a3, a4, a5, a6, a7) (nI i) (nI j) := by
  have no : (p.testBit i = false ∨ p.testBit j = false) → i < 7 → j < 7 → (A i).testBit j = false := by
    intro h i7 j7
    cases b : (A i).testBit j with
    | false => rfl
    | true =>
      have k := hK i j i7 j7 b
      rcases h with h | h
      · rw [k.1] at h
        exact absurd h (by decide)
      · rw [k.2] at h
        exact absurd h (by decide)
  unfold wpX_linked
  refine tp_holds hp hc hi hpc (fun i7 pi => br_f (by decide) ?_) (fun pi => br_t rfl (H0 (no (Or.inl pi))))
  refine tp_holds hp hc hj hpc (fun j7 pj => br_f (by decide) ⟨pk_in i 7 i7, ?_⟩) (fun pj => br_t rfl (H0 (no (Or.inr pj))))
  rw [nI_clamp (show i < 2 ^ 31 by omega), (hA i i7).1]
  exact ek_if (tp_bit0 j hj (A i) (hA i i7).2) (fun b => H0 (fun _ _ => b)) (fun b => H1 i7 j7 (by revert b; cases (A i).testBit j <;> decide))
end
end
section
/-! how full the slots are: one nibble a slot -/
def tp_sm (c : Nat → Nat) : Nat → Nat
  | 0 => 0
  | k + 1 => tp_sm c k + c k * 16 ^ k
theorem tp_sm_s (c : Nat → Nat) (k : Nat) : tp_sm c (k + 1) = tp_sm c k + c k * 16 ^ k := rfl
theorem tp_sm_up {c c' : Nat → Nat} {v : Nat} (h : ∀ t, c' t = c t + tp_b (decide (v = t))) (k : Nat) : tp_sm c' k = tp_sm c k + (if v < k then 16 ^ v else 0) := by
  induction k with
  | zero => rfl
  | succ k ih =>
    rw [tp_sm_s, tp_sm_s, ih, h k]
    rcases Nat.lt_trichotomy v k with z | z | z
    · rw [if_pos z, if_pos (by omega), decide_eq_false (by omega)]
      show _ + (c k + 0) * 16 ^ k = _
      rw [Nat.add_zero]
      omega
    · rw [if_neg (by omega), if_pos (by omega), decide_eq_true z, z]
      show _ + (c k + 1) * 16 ^ k = _
      rw [Nat.add_mul, Nat.one_mul]
      omega
    · rw [if_neg (show ¬ v < k by omega), if_neg (show ¬ v < k + 1 by omega), decide_eq_false (show ¬ v = k by omega)]
      show _ + (c k + 0) * 16 ^ k = _
      rw [Nat.add_zero (c k)]
      omega
def tp_ld (f : Nat → Bool) (s : Nat → Nat) : Nat → Nat
  | 0 => 0
  | n + 1 => tp_ld f s n + (if f n = true then 16 ^ s n else 0)
theorem tp_ld_t {f : Nat → Bool} {s : Nat → Nat} {n : Nat} (h : f n = true) : tp_ld f s (n + 1) = tp_ld f s n + 16 ^ s n := by
  show tp_ld f s n + (if f n = true then 16 ^ s n else 0) = _
  rw [if_pos h]
theorem tp_ld_f {f : Nat → Bool} {s : Nat → Nat} {n : Nat} (h : f n = false) : tp_ld f s (n + 1) = tp_ld f s n := by
  show tp_ld f s n + (if f n = true then 16 ^ s n else 0) = _
  rw [if_neg (by rw [h]; decide)]
  rfl
theorem tp_ld_sm {f : Nat → Bool} {s : Nat → Nat} (n : Nat) (h : ∀ j, j < n → f j = true → s j < 8) : tp_ld f s n = tp_sm (fun t => tp_cn (fun j => f j && decide (s j = t)) n) 8 := by
  induction n with
  | zero => simp [tp_sm, tp_cn, tp_ld]
  | succ n ih =>
    have e := ih (fun j hj => h j (by omega))
    cases b : f n with
    | true =>
      have hs := h n (by omega) b
      rw [tp_ld_t b, e, tp_sm_up (c := fun t => tp_cn (fun j => f j && decide (s j = t)) n) (c' := fun t => tp_cn (fun j => f j && decide (s j = t)) (n + 1)) (v := s n) (fun t => ?_) 8, if_pos hs]
      show tp_cn (fun j => f j && decide (s j = t)) n + tp_b (f n && decide (s n = t)) = _
      rw [b, Bool.true_and]
    | false =>
      rw [tp_ld_f b, e]
      congr 1
      funext t
      show _ = tp_cn (fun j => f j && decide (s j = t)) n + tp_b (f n && decide (s n = t))
      rw [b]
      rfl
theorem tp_nib {c : Nat → Nat} (h : ∀ t, c t ≤ 7) : tp_sm c 8 < 2 ^ 32 ∧ ∀ t, t < 8 → tp_sm c 8 / 2 ^ (4 * t) % 2 ^ 4 = c t := by
  have e : tp_sm c 8 = c 0 + c 1 * 16 + c 2 * 256 + c 3 * 4096 + c 4 * 65536 + c 5 * 1048576 + c 6 * 16777216 + c 7 * 268435456 := by
    simp only [tp_sm, Nat.zero_add, Nat.reducePow, Nat.mul_one]
  have h0 := h 0
  have h1 := h 1
  have h2 := h 2
  have h3 := h 3
  have h4 := h 4
  have h5 := h 5
  have h6 := h 6
  have h7 := h 7
  rw [e]
  refine ⟨by omega, fun t ht => ?_⟩
  have d : t = 0 ∨ t = 1 ∨ t = 2 ∨ t = 3 ∨ t = 4 ∨ t = 5 ∨ t = 6 ∨ t = 7 := by omega
  rcases d with rfl | rfl | rfl | rfl | rfl | rfl | rfl | rfl
  all_goals
    simp only [Nat.reducePow, Nat.reduceMul]
    omega
theorem tp_1l : ∀ s, s < 8 → (1 : Int64) <<< ((4 * nI s).toInt64 &&& 63) = lN (16 ^ s) := by decide +kernel
theorem tp_cnt : ∀ s, s < 8 → (((4 * nI s).toInt64 &&& 63).toBitVec.smod 64).toNat = 4 * s := by decide +kernel
theorem tp_shrL {a d : Nat} {E : Int64} (hD : (E.toBitVec.smod 64).toNat = d) (h : a < 2 ^ 62) : lN a >>> E = lN (a / 2 ^ d) := by
  have hd : a / 2 ^ d ≤ a := Nat.div_le_self _ _
  apply Int64.toInt_inj.mp
  have e : (lN a >>> E).toInt = (lN a).toInt >>> d := by
    rw [← hD]
    exact BitVec.toInt_sshiftRight ..
  rw [e, Int.shiftRight_eq_div_pow, pk_lT (by omega), pk_lT (by omega)]
  rfl
theorem tp_andL {n : Nat} (hn : n < 2 ^ 62) : lN n &&& 15 = lN (n % 2 ^ 4) := by
  apply Int64.toBitVec_inj.mp
  show BitVec.ofNat 64 n &&& BitVec.ofNat 64 15 = BitVec.ofNat 64 (n % 2 ^ 4)
  rw [← BitVec.ofNat_and, show (15 : Nat) = 2 ^ 4 - 1 from rfl, Nat.and_two_pow_sub_one_eq_mod]
/-- the slots' check of the law -/
theorem tp_full4 {f : Nat → Bool} {s : Nat → Nat} {m t : Nat} (ht : t < 8) (hm : m < 9) (hs : ∀ j, j < 7 → f j = true → s j < 8) (hc : ∀ t, tp_cn (fun j => f j && decide (s j = t)) 7 ≤ m) :
    (lN (tp_ld f s 7) >>> ((4 * nI t).toInt64 &&& 63)) &&& 15 ≤ (nI m).toInt64 := by
  rw [tp_ld_sm 7 hs]
  have nb := tp_nib (c := fun t => tp_cn (fun j => f j && decide (s j = t)) 7) (fun t => tp_cn_le _ 7)
  have e := nb.2 t ht
  have b := nb.1
  have l := hc t
  have q : tp_sm (fun t => tp_cn (fun j => f j && decide (s j = t)) 7) 8 / 2 ^ (4 * t) ≤ tp_sm (fun t => tp_cn (fun j => f j && decide (s j = t)) 7) 8 := Nat.div_le_self _ _
  rw [tp_shrL (tp_cnt t ht) (by omega), tp_andL (by omega), nI_l (by omega), e]
  exact (pk_lLE (by omega) (by omega)).mpr l
end
section
/-! the law's own methods -/
noncomputable def tp_l (m p : Nat) (A D : Nat → Nat) (b : Nat) : Nat := if b = 0 then 8 else tp_sp m p A D
def tp_kk (m p : Nat) (A D : Nat → Nat) (f g : Int32) (b6 b7 : Nat → Int32) : Prop := tp_kn f b6 (tp_g m p A D 8) p ∧ tp_kn g b7 (tp_g m p A D (tp_sp m p A D)) p
theorem tp_l8 {m cap p b : Nat} {A D : Nat → Nat} (hT : tp_T m cap p A D) (hD : ∀ j, j < 7 → D j < 9) : tp_l m p A D b ≤ 8 := by
  unfold tp_l
  split
  · exact Nat.le_refl 8
  · by_cases e : p = 0
    · unfold tp_sp
      rw [if_pos e]
      omega
    · exact (tp_sp_ok hD hT.2.2.2.2.2 e).2.1
/-- the slots are a timetable -/
theorem tp_gS {m cap p b : Nat} {A D : Nat → Nat} (hT : tp_T m cap p A D) (hD : ∀ j, j < 7 → D j < 9) :
    tp_S m p.testBit (fun i j => (A i).testBit j) (fun j => min (D j) (tp_l m p A D b)) (fun j => tp_g m p A D (tp_l m p A D b) j - 1) := by
  by_cases e : p = 0
  · have none : ∀ j, p.testBit j = false := fun j => by rw [e, Nat.zero_testBit]
    refine ⟨fun i _ pi => by rw [none i] at pi; exact absurd pi (by decide), fun i j _ _ pi => by rw [none i] at pi; exact absurd pi (by decide), fun s => ?_⟩
    rw [tp_cn_zero 7 (fun j _ => by rw [none j]; rfl)]
    exact Nat.zero_le _
  · unfold tp_l tp_g
    split
    · exact tp_gr_S (tp_F8 hD hT.2.2.2.2.2)
    · exact tp_gr_S (tp_sp_ok hD hT.2.2.2.2.2 e).2.2
theorem tp_val_t {g : Nat → Nat} {p x : Nat} (h : p.testBit x = true) : tp_val g p x = nI (g x - 1) := if_pos h
theorem tp_val_f {g : Nat → Nat} {p x : Nat} (h : p.testBit x = false) : tp_val g p x = -1 := if_neg (by rw [h]; decide)
section
variable {fk sk : Int32} {a1 a2 a3 a4 a5 a6 a7 : Nat → Int32} {m cap p : Nat} {A D : Nat → Nat}
theorem tp_slot {post : Int32 → St1 → Prop} {x b : Nat} (hT : tp_T m cap p A D) (hD : tp_H a1 D 9) (hA : tp_H a2 A 128) (hx : x < 7) (hb : b = 0 ∨ b = 1) (hk : tp_kk m p A D fk sk a6 a7)
    (H : ∀ f g b3 b4 b5 b6 b7, tp_kk m p A D f g b6 b7 → post (tp_val (tp_g m p A D (tp_l m p A D b)) p x) (nI m, nI cap, nI p, f, g, a1, a2, b3, b4, b5, b6, b7)) :
    wpL_slot post (nI m, nI cap, nI p, fk, sk, a1, a2, a3, a4, a5, a6, a7) (nI x) (nI b) := by
  unfold wpL_slot
  unfold tp_l at H
  refine pk_eq b 0 (fun e => ?_) (fun e => ?_)
  · rw [if_pos e] at H
    exact tp_slotOf hT hD hA hx hk.1 (fun f b3 b4 b5 b6 h => H f sk b3 b4 b5 b6 a7 ⟨h, hk.2⟩)
  · rw [if_neg e] at H
    exact tp_shortOf hT hD hA hx hk.2 (fun f b3 b4 b5 b7 h => H fk f b3 b4 b5 a6 b7 ⟨hk.1, h⟩)
theorem tp_ordered {post : Int32 → St1 → Prop} {b : Nat} (hT : tp_T m cap p A D) (hD : tp_H a1 D 9) (hA : tp_H a2 A 128) (hb : b = 0 ∨ b = 1) (hk : tp_kk m p A D fk sk a6 a7)
    (H : ∀ f g b3 b4 b5 b6 b7, tp_kk m p A D f g b6 b7 → post 1 (nI m, nI cap, nI p, f, g, a1, a2, b3, b4, b5, b6, b7)) :
    wpL_ordered post (nI m, nI cap, nI p, fk, sk, a1, a2, a3, a4, a5, a6, a7) (nI b) := by
  have hD9 : ∀ j, j < 7 → D j < 9 := fun j hj => (hD j hj).2
  have S := tp_gS (b := b) hT hD9
  obtain ⟨hm, hp, hc, hpc, hK, hF⟩ := hT
  have hT : tp_T m cap p A D := ⟨hm, hp, hc, hpc, hK, hF⟩
  refine Exists.elim (pk_loop (fun n i (s : Int32 × Int32 × (Nat → Int32) × (Nat → Int32) × (Nat → Int32) × (Nat → Int32) × (Nat → Int32)) => wL_ordered_2 post (nI b) n (nI i) (nI m) (nI cap) (nI p) s.1 s.2.1 a1 a2 s.2.2.1 s.2.2.2.1 s.2.2.2.2.1 s.2.2.2.2.2.1 s.2.2.2.2.2.2)
    (fun i s => tp_kk m p A D s.1 s.2.1 s.2.2.2.2.2.1 s.2.2.2.2.2.2) 7 0 (fk, sk, a3, a4, a5, a6, a7) (by omega) hk ?_ ?_) (fun n h => ⟨n, h⟩)
  · rintro n ⟨f, g, b3, b4, b5, b6, b7⟩ h
    exact pk_le 7 7 (fun _ => H f g b3 b4 b5 b6 b7 h) (fun z => absurd z (by omega))
  · rintro n i ⟨f, g, b3, b4, b5, b6, b7⟩ hi h hk2
    refine pk_le 7 i (fun z => absurd z (by omega)) (fun _ => tp_slot hT hD hA hi hb h (fun f g b3 b4 b5 b6 b7 h => ?_))
    refine Exists.elim (pk_loop (fun n' j (s : Int32 × Int32 × (Nat → Int32) × (Nat → Int32) × (Nat → Int32) × (Nat → Int32) × (Nat → Int32)) => wL_ordered_18 post (wL_ordered_2 post (nI b) n) (nI b) (nI i) (tp_val (tp_g m p A D (tp_l m p A D b)) p i) n' (nI j) (nI m) (nI cap) (nI p) s.1 s.2.1 a1 a2 s.2.2.1 s.2.2.2.1 s.2.2.2.2.1 s.2.2.2.2.2.1 s.2.2.2.2.2.2)
      (fun j s => tp_kk m p A D s.1 s.2.1 s.2.2.2.2.2.1 s.2.2.2.2.2.2) 7 0 (f, g, b3, b4, b5, b6, b7) (by omega) h ?_ ?_) (fun n h => ⟨n, h⟩)
    · rintro n' ⟨f, g, b3, b4, b5, b6, b7⟩ h
      exact pk_le 7 7 (fun _ => nm_r (nI_1 i) (hk2 (f, g, b3, b4, b5, b6, b7) h)) (fun z => absurd z (by omega))
    · rintro n' j ⟨f, g, b3, b4, b5, b6, b7⟩ hj h hk18
      refine pk_le 7 j (fun z => absurd z (by omega)) (fun _ => tp_linked hp hc hpc hA hK (by omega) (by omega) (fun _ _ aij => br_f (by decide) ?_) (fun _ => br_t rfl (nm_r (nI_1 j) (hk18 (f, g, b3, b4, b5, b6, b7) h))))
      refine tp_slot hT hD hA hj hb h (fun f g b3 b4 b5 b6 b7 h => ?_)
      obtain ⟨pi, pj⟩ := hK i j hi hj aij
      have lt : tp_g m p A D (tp_l m p A D b) i - 1 < tp_g m p A D (tp_l m p A D b) j - 1 := S.2.1 i j hi hj pi pj aij
      have lj : tp_g m p A D (tp_l m p A D b) j - 1 < min (D j) (tp_l m p A D b) := S.1 j hj pj
      have dj := hD9 j hj
      exact pk_lt (tp_g m p A D (tp_l m p A D b) i - 1) (tp_g m p A D (tp_l m p A D b) j - 1) (fun _ => nm_r (nI_1 j) (hk18 (f, g, b3, b4, b5, b6, b7) h)) (fun z => absurd z (by omega)) (tp_val_t pi) (tp_val_t pj)
theorem tp_lgood {post : Int32 → St1 → Prop} {b : Nat} (hT : tp_T m cap p A D) (hD : tp_H a1 D 9) (hA : tp_H a2 A 128) (hb : b = 0 ∨ b = 1) (hk : tp_kk m p A D fk sk a6 a7)
    (H : ∀ f g b3 b4 b5 b6 b7, tp_kk m p A D f g b6 b7 → post 1 (nI m, nI cap, nI p, f, g, a1, a2, b3, b4, b5, b6, b7)) :
    wpL_good post (nI m, nI cap, nI p, fk, sk, a1, a2, a3, a4, a5, a6, a7) (nI b) (nI (tp_l m p A D b)) (nI m) := by
  have hD9 : ∀ j, j < 7 → D j < 9 := fun j hj => (hD j hj).2
  have S := tp_gS (b := b) hT hD9
  have l8 := tp_l8 (b := b) hT hD9
  obtain ⟨hm, hp, hc, hpc, hK, hF⟩ := hT
  have hT : tp_T m cap p A D := ⟨hm, hp, hc, hpc, hK, hF⟩
  have s8 : ∀ j, j < 7 → p.testBit j = true → tp_g m p A D (tp_l m p A D b) j - 1 < 8 := by
    intro j hj pj
    have h1 : tp_g m p A D (tp_l m p A D b) j - 1 < min (D j) (tp_l m p A D b) := S.1 j hj pj
    omega
  refine Exists.elim (pk_loop (fun n i (s : Int64 × Int32 × Int32 × (Nat → Int32) × (Nat → Int32) × (Nat → Int32) × (Nat → Int32) × (Nat → Int32)) => wL_good_12 post (nI b) (nI (tp_l m p A D b)) (nI m) (nI p) n s.1 (nI i) (nI m) (nI cap) (nI p) s.2.1 s.2.2.1 a1 a2 s.2.2.2.1 s.2.2.2.2.1 s.2.2.2.2.2.1 s.2.2.2.2.2.2.1 s.2.2.2.2.2.2.2)
    (fun i s => ∃ f g b3 b4 b5 b6 b7, s = (lN (tp_ld p.testBit (fun j => tp_g m p A D (tp_l m p A D b) j - 1) i), f, g, b3, b4, b5, b6, b7) ∧ tp_kk m p A D f g b6 b7) 7 0 (0, fk, sk, a3, a4, a5, a6, a7) (by omega) ⟨fk, sk, a3, a4, a5, a6, a7, rfl, hk⟩ ?_ ?_) (fun n h => ⟨n, h⟩)
  · rintro n s ⟨f, g, b3, b4, b5, b6, b7, rfl, h⟩
    refine pk_le 7 7 (fun _ => ?_) (fun z => absurd z (by omega))
    refine Exists.elim (pk_loop (σ := Unit) (fun n' t _ => wL_good_120 post (nI b) (nI m) (lN (tp_ld p.testBit (fun j => tp_g m p A D (tp_l m p A D b) j - 1) 7)) (nI m) (nI cap) (nI p) f g a1 a2 b3 b4 b5 b6 b7 n' (nI t)) (fun _ _ => True) 8 0 () (by omega) trivial ?_ ?_) (fun n h => ⟨n, h⟩)
    · intro n' _ _
      exact pk_le 8 8 (fun _ => tp_ordered hT hD hA hb h (fun f g b3 b4 b5 b6 b7 h => ⟨rfl, H f g b3 b4 b5 b6 b7 h⟩)) (fun z => absurd z (by omega))
    · intro n' t _ ht _ hk120
      exact pk_le 8 t (fun z => absurd z (by omega)) (fun _ => br_t (tp_full4 ht (by omega) s8 S.2.2) (nm_r (nI_1 t) (hk120 () trivial)))
  · rintro n i s hi ⟨f, g, b3, b4, b5, b6, b7, rfl, h⟩ hk12
    refine pk_le 7 i (fun z => absurd z (by omega)) (fun _ => tp_slot hT hD hA hi hb h (fun f g b3 b4 b5 b6 b7 h => ?_))
    refine tp_dead hp hc hpc hD hi (fun pi => br_t ((tp_bit1 i (by omega) p hp).mpr pi) ?_) (fun pi => br_f (by rw [tp_bit1 i (by omega) p hp, pi]; decide) ?_)
    · have si : tp_g m p A D (tp_l m p A D b) i - 1 < min (D i) (tp_l m p A D b) := S.1 i hi pi
      have s8i := s8 i hi pi
      have di := hD9 i hi
      rw [tp_val_t pi]
      unfold wL_good_52
      refine br_f (by decide) (br_f (nI_pos (by omega)) (pk_le (D i) (tp_g m p A D (tp_l m p A D b) i - 1) (fun z => absurd z (by omega)) (fun _ => pk_le (tp_l m p A D b) (tp_g m p A D (tp_l m p A D b) i - 1) (fun z => absurd z (by omega)) (fun _ => ?_))))
      unfold wL_good_77
      refine br_f (by decide) ?_
      unfold wL_good_90
      refine br_f (by decide) (nm_r (e' := lN (tp_ld p.testBit (fun j => tp_g m p A D (tp_l m p A D b) j - 1) (i + 1))) ?_ (nm_r (nI_1 i) (hk12 _ ⟨f, g, b3, b4, b5, b6, b7, rfl, h⟩)))
      rw [tp_1l _ s8i, lN_add, tp_ld_t pi]
    · rw [tp_val_f pi]
      unfold wL_good_52
      refine br_t rfl ?_
      unfold wL_good_77
      refine br_t rfl (br_t rfl ?_)
      unfold wL_good_90
      refine br_t rfl (nm_r (nI_1 i) (hk12 (lN (tp_ld p.testBit (fun j => tp_g m p A D (tp_l m p A D b) j - 1) i), f, g, b3, b4, b5, b6, b7) ⟨f, g, b3, b4, b5, b6, b7, ?_, h⟩))
      rw [tp_ld_f pi]
theorem tp_least {post : Int32 → St1 → Prop} (hT : tp_T m cap p A D) (hD : tp_H a1 D 9) (hA : tp_H a2 A 128) (hk : tp_kk m p A D fk sk a6 a7)
    (H : ∀ u, post 1 u) : wpL_least post (nI m, nI cap, nI p, fk, sk, a1, a2, a3, a4, a5, a6, a7) := by
  have hD9 : ∀ j, j < 7 → D j < 9 := fun j hj => (hD j hj).2
  have S0 : tp_S m p.testBit (fun i j => (A i).testBit j) (fun j => min (D j) 8) (fun j => tp_g m p A D 8 j - 1) := tp_gS (b := 0) hT hD9
  have S1 : tp_S m p.testBit (fun i j => (A i).testBit j) (fun j => min (D j) (tp_sp m p A D)) (fun j => tp_g m p A D (tp_sp m p A D) j - 1) := tp_gS (b := 1) hT hD9
  have S1' : tp_S m p.testBit (fun i j => (A i).testBit j) (fun j => min (D j) 8) (fun j => tp_g m p A D (tp_sp m p A D) j - 1) := by
    refine tp_S_at (fun i hi pi => ?_) S1
    have h1 : tp_g m p A D (tp_sp m p A D) i - 1 < min (D i) (tp_sp m p A D) := S1.1 i hi pi
    have h2 := hD9 i hi
    show tp_g m p A D (tp_sp m p A D) i - 1 < min (D i) 8
    omega
  refine Exists.elim (pk_loop (fun n i (s : Int32 × Int32 × Int32 × (Nat → Int32) × (Nat → Int32) × (Nat → Int32) × (Nat → Int32) × (Nat → Int32)) => wL_least_4 post n s.1 (nI i) (nI m) (nI cap) (nI p) s.2.1 s.2.2.1 a1 a2 s.2.2.2.1 s.2.2.2.2.1 s.2.2.2.2.2.1 s.2.2.2.2.2.2.1 s.2.2.2.2.2.2.2)
    (fun i s => (s.1 = 0 ∨ ∀ j, j < i → p.testBit j = false) ∧ tp_kk m p A D s.2.1 s.2.2.1 s.2.2.2.2.2.2.1 s.2.2.2.2.2.2.2) 7 0 (1, fk, sk, a3, a4, a5, a6, a7) (by omega) ⟨Or.inr (fun j hj => absurd hj (by omega)), hk⟩ ?_ ?_) (fun n h => ⟨n, h⟩)
  · rintro n ⟨x, f, g, b3, b4, b5, b6, b7⟩ _
    exact pk_le 7 7 (fun _ => H _) (fun z => absurd z (by omega))
  · rintro n i ⟨x, f, g, b3, b4, b5, b6, b7⟩ hi ⟨hx, h⟩ hk4
    have hx : x = 0 ∨ ∀ j, j < i → p.testBit j = false := hx
    have h : tp_kk m p A D f g b6 b7 := h
    refine pk_le 7 i (fun z => absurd z (by omega)) (fun _ => tp_slotOf hT hD hA hi h.1 (fun f b3 b4 b5 b6 h6 => ?_))
    cases pi : p.testBit i with
    | false =>
      rw [tp_val_f pi]
      refine br_t (by decide) (nm_r (nI_1 i) (hk4 (x, f, g, b3, b4, b5, b6, b7) ⟨?_, h6, h.2⟩))
      rcases hx with hx | hx
      · exact Or.inl hx
      · exact Or.inr (lt_s hx pi)
    | true =>
      have s0 : tp_g m p A D 8 i - 1 < min (D i) 8 := S0.1 i hi pi
      have s1 : tp_g m p A D (tp_sp m p A D) i - 1 < min (D i) 8 := S1'.1 i hi pi
      have le := tp_lv_S (i := i) S0
      rw [tp_val_t pi]
      refine br_f (nI_pos (by omega)) (tp_early hT hD hA hi pi (fun b3 b4 b5 => tp_shortOf hT hD hA hi h.2 (fun g b3 b4 b5 b7 h7 => ?_)))
      refine pk_lt (tp_g m p A D 8 i - 1) (tp_lv (fun d => tp_F m p.testBit (fun i j => (A i).testBit j) (tp_up (fun j => min (D j) 8) i d)) - 1) (fun z => absurd z ?_) (fun _ => br_c (fun e => nm_r (nI_1 i) (hk4 (0, f, g, b3, b4, b5, b6, b7) ⟨Or.inl rfl, h6, h7⟩)) (fun e => ?_)) rfl rfl (by omega) (by omega)
      · omega
      · have no : ∀ j, j < i → p.testBit j = false := by
          rcases hx with hx | hx
          · exact absurd hx e
          · exact hx
        have fst : tp_g m p A D 8 i - 1 ≤ tp_g m p A D (tp_sp m p A D) i - 1 := tp_gr_first S1' hi pi no
        rw [tp_val_t pi]
        exact pk_le (tp_g m p A D 8 i - 1) (tp_g m p A D (tp_sp m p A D) i - 1) (fun _ => nm_r (nI_1 i) (hk4 (0, f, g, b3, b4, b5, b6, b7) ⟨Or.inl rfl, h6, h7⟩)) (fun z => absurd z (by omega))
end
end
section
/-! the turns -/
def tp_Z (m cap : Nat) (u : St1) : Prop := ∃ (p : Nat) (A D : Nat → Nat) (a1 a2 a3 a4 a5 a6 a7 : Nat → Int32), u = (nI m, nI cap, nI p, 0, 0, a1, a2, a3, a4, a5, a6, a7) ∧ tp_T m cap p A D ∧ tp_H a1 D 9 ∧ tp_H a2 A 128
theorem tp_cl_set : ∀ k, k < 7 → ∀ x, x < 128 → x.testBit k = false → tp_cl (x ||| 2 ^ k) k = x := by decide +kernel
theorem tp_put2 {A : Nat → Nat} {s : Nat → Int32} {i b : Nat} {w v : Int32} (h : tp_H s A b) (hi : i < 7) (hv : v = nI (A i)) : tp_H (upd (upd s i w) i v) A b := by
  intro j hj
  by_cases e : j = i
  · rw [e, pk_us]
    exact ⟨hv, (h i hi).2⟩
  · rw [pk_un e, pk_un e]
    exact h j hj
theorem tp_put3 {A : Nat → Nat} {s : Nat → Int32} {i v b : Nat} {w : Int32} (h : tp_H s A b) (hv : v < b) : tp_H (upd (upd s i w) i (nI v)) (tp_up A i v) b := by
  intro j hj
  by_cases e : j = i
  · rw [e, pk_us, tp_up_s]
    exact ⟨rfl, hv⟩
  · rw [pk_un e, pk_un e, tp_up_n _ _ e]
    exact h j hj
theorem tp_T_D {m cap p id d : Nat} {A D : Nat → Nat} (hT : tp_T m cap p A D) (h : p.testBit id = false) : tp_T m cap p A (tp_up D id d) := by
  obtain ⟨hm, hp, hc, hpc, hK, hF⟩ := hT
  refine ⟨hm, hp, hc, hpc, hK, tp_F_mono (fun i hi pi => ?_) hF⟩
  rw [tp_up_n _ _ (fun e => by rw [e, h] at pi; exact absurd pi (by decide))]
  exact Nat.le_refl _
theorem tp_K_new {p id f : Nat} {A : Nat → Nat} (hid : id < 7) (hK : ∀ i j, i < 7 → j < 7 → (A i).testBit j = true → p.testBit i = true ∧ p.testBit j = true) (hf : ∀ j, j < 7 → f.testBit j = true → p.testBit j = true) :
    ∀ i j, i < 7 → j < 7 → (tp_up A id f i).testBit j = true → (p ||| 2 ^ id).testBit i = true ∧ (p ||| 2 ^ id).testBit j = true := by
  intro i j hi hj b
  rw [tp_set_b hid hi, tp_set_b hid hj, Bool.or_eq_true, Bool.or_eq_true]
  by_cases e : i = id
  · rw [e, tp_up_s] at b
    exact ⟨Or.inr (decide_eq_true e), Or.inl (hf j hj b)⟩
  · rw [tp_up_n _ _ e] at b
    exact ⟨Or.inl (hK i j hi hj b).1, Or.inl (hK i j hi hj b).2⟩
theorem tp_T_new {m cap p id f : Nat} {A D D' : Nat → Nat} (hT : tp_T m cap p A D) (hid : id < cap) (hf : ∀ j, j < 7 → f.testBit j = true → p.testBit j = true)
    (hF : tp_F m (p ||| 2 ^ id).testBit (fun i j => (tp_up A id f i).testBit j) D') : tp_T m cap (p ||| 2 ^ id) (tp_up A id f) D' := by
  obtain ⟨hm, hp, hc, hpc, hK, _⟩ := hT
  refine ⟨hm, tp_or_lt hp (tp_pw_lt id (by omega)), hc, fun j hj b => ?_, tp_K_new (by omega) hK hf, hF⟩
  rw [tp_set_b (by omega) hj, Bool.or_eq_true] at b
  rcases b with b | b
  · exact hpc j hj b
  · have := of_decide_eq_true b
    omega
section
variable {cp fk sk : Int32} {a1 a2 a3 a4 a5 a6 a7 : Nat → Int32} {m cap p : Nat} {A D : Nat → Nat}
theorem tp_feas {post : Int32 → St1 → Prop} (hm : m = 1 ∨ m = 2) (hp : p < 128) (hA : tp_H a2 A 128)
    (hK : ∀ i j, i < 7 → j < 7 → (A i).testBit j = true → p.testBit i = true ∧ p.testBit j = true) (hD : tp_H a1 D 9)
    (H1 : tp_F m p.testBit (fun i j => (A i).testBit j) D → ∀ b3 b4 b5, post 1 (nI m, cp, nI p, fk, sk, a1, a2, b3, b4, b5, a6, a7))
    (H0 : ∀ b3 b4 b5, post 0 (nI m, cp, nI p, fk, sk, a1, a2, b3, b4, b5, a6, a7)) : wpX_feasible post (nI m, cp, nI p, fk, sk, a1, a2, a3, a4, a5, a6, a7) := by
  unfold wpX_feasible
  exact tp_ask (l := 8) (by omega) hD (fun b4 hb => tp_good hm hp hA hK hb (fun f c3 c5 => ⟨rfl, H1 (tp_F8' f) c3 b4 c5⟩) (fun _ c3 c5 => ⟨rfl, H0 c3 b4 c5⟩))
theorem tp_free {post : Int32 → Prop} {mh : Int32} (hp : p < 128) (hc : cap ≤ 7) (H1 : ∀ i, i < cap → p.testBit i = false → post (nI i)) (H0 : post (-1)) :
    wpX_freeNumber post (mh, nI cap, nI p, fk, sk, a1, a2, a3, a4, a5, a6, a7) := by
  refine pk_loop (σ := Unit) (fun n i _ => wX_freeNumber_2 post mh (nI cap) (nI p) fk sk a1 a2 a3 a4 a5 a6 a7 n (nI i)) (fun _ _ => True) cap 0 () (by omega) trivial ?_ ?_
  · intro n _ _
    exact pk_le cap cap (fun _ => H0) (fun z => absurd z (by omega))
  · intro n i _ hi _ hk
    exact pk_le cap i (fun z => absurd z (by omega)) (fun _ => ek_if (tp_bit0 i (by omega) p hp) (fun b => H1 i hi b) (fun _ => nm_r (nI_1 i) (hk () trivial)))
theorem tp_tryNew {post : Int32 → St1 → Prop} {d f : Nat} (hT : tp_T m cap p A D) (hD : tp_H a1 D 9) (hA : tp_H a2 A 128) (d8 : d ≤ 8) (hf : f < 128) (hfp : ∀ j, j < 7 → f.testBit j = true → p.testBit j = true)
    (H2 : post (-2) (nI m, nI cap, nI p, fk, sk, a1, a2, a3, a4, a5, a6, a7))
    (H3 : ∀ id b1 b2 b3 b4 b5, id < cap → p.testBit id = false → tp_H b1 (tp_up D id d) 9 → tp_H b2 A 128 → post (-3) (nI m, nI cap, nI p, fk, sk, b1, b2, b3, b4, b5, a6, a7))
    (H1 : ∀ id b1 b2 b3 b4 b5, id < cap → p.testBit id = false → tp_H b1 (tp_up D id d) 9 → tp_H b2 A 128 → tp_F m (p ||| 2 ^ id).testBit (fun i j => (tp_up A id f i).testBit j) (tp_up D id d) → post (nI id) (nI m, nI cap, nI p, fk, sk, b1, b2, b3, b4, b5, a6, a7)) :
    wpX_tryNew post (nI m, nI cap, nI p, fk, sk, a1, a2, a3, a4, a5, a6, a7) (nI d) (nI f) := by
  obtain ⟨hm, hp, hc, hpc, hK, hF⟩ := hT
  unfold wpX_tryNew
  refine tp_free hp hc (fun id hid pid => br_t (nI_pos' (by omega)) ?_) (br_f (by decide) H2)
  have h7 : id < 7 := by omega
  have e1 : upd a1 (nI id).toNatClampNeg (nI d).toInt8.toInt32 = upd a1 id (nI d) := by rw [nI_clamp (by omega), tp_by7 d (by omega)]
  have e2 : upd a2 (nI id).toNatClampNeg (nI f).toInt8.toInt32 = upd a2 id (nI f) := by rw [nI_clamp (by omega), tp_by7 f hf]
  have e3 : nI p ||| ((1 : Int32) <<< (nI id &&& 31)) = nI (p ||| 2 ^ id) := by rw [tp_shl id (by omega), tp_or]
  have pl : p ||| 2 ^ id < 128 := tp_or_lt hp (tp_pw_lt id h7)
  have e4 : nI (p ||| 2 ^ id) &&& (((1 : Int32) <<< (nI id &&& 31)) ^^^ (-1)) = nI p := by rw [tp_clI id h7 _ pl, tp_cl_set id h7 p hp pid]
  have a0 : A id = 0 := by
    refine tp_z _ (hA id h7).2 (fun k hk => ?_)
    cases b : (A id).testBit k with
    | false => rfl
    | true =>
      have := (hK id k h7 hk b).1
      rw [pid] at this
      exact absurd this (by decide)
  have h1 : tp_H (upd a1 id (nI d)) (tp_up D id d) 9 := tp_put hD (by omega)
  have h2 : tp_H (upd (upd a2 id (nI f)) id 0) A 128 := tp_put2 hA h7 (by rw [a0]; rfl)
  have e5 : upd (upd a2 id (nI f)) (nI id).toNatClampNeg 0 = upd (upd a2 id (nI f)) id 0 := by rw [nI_clamp (by omega)]
  refine ⟨pk_in id 7 h7, nm_r e1 ⟨pk_in id 7 h7, nm_r e2 (nm_r e3 ?_)⟩⟩
  refine tp_feas hm pl (tp_put hA hf) (tp_K_new h7 hK hfp) h1 (fun F b3 b4 b5 => nm_r e4 ⟨pk_in id 7 h7, nm_r e5 (br_f (by decide) (H1 id _ _ b3 b4 b5 hid pid h1 h2 F))⟩) (fun b3 b4 b5 => nm_r e4 ⟨pk_in id 7 h7, nm_r e5 (br_t rfl (H3 id _ _ b3 b4 b5 hid pid h1 h2))⟩)
theorem tp_settle {post : St1 → Prop} {mh : Int32} {id d : Nat} (hid : id < 7) (d8 : d ≤ 8)
    (H : post (mh, cp, nI (p ||| 2 ^ id), 0, 0, upd a1 id (nI d), upd a2 id 0, a3, a4, a5, a6, a7)) : wpX_settle post (mh, cp, nI p, fk, sk, a1, a2, a3, a4, a5, a6, a7) (nI id) (nI d) := by
  have e1 : upd a1 (nI id).toNatClampNeg (nI d).toInt8.toInt32 = upd a1 id (nI d) := by rw [nI_clamp (by omega), tp_by7 d (by omega)]
  have e2 : upd a2 (nI id).toNatClampNeg 0 = upd a2 id 0 := by rw [nI_clamp (by omega)]
  have e3 : nI p ||| ((1 : Int32) <<< (nI id &&& 31)) = nI (p ||| 2 ^ id) := by rw [tp_shl id (by omega), tp_or]
  unfold wpX_settle
  exact nm_r e3 ⟨pk_in id 7 hid, nm_r e1 ⟨pk_in id 7 hid, nm_r e2 H⟩⟩
theorem tp_add {post : Int32 → St1 → Prop} {d : Nat} (hT : tp_T m cap p A D) (hD : tp_H a1 D 9) (hA : tp_H a2 A 128) (d1 : 1 ≤ d) (d8 : d ≤ 8) (H : ∀ r u, tp_Z m cap u → post r u) :
    wpX_add post (nI m, nI cap, nI p, 0, 0, a1, a2, a3, a4, a5, a6, a7) (nI d) := by
  unfold wpX_add
  unfold wpX_probe
  refine pk_lt d 1 (fun z => absurd z (by omega)) (fun _ => pk_le d 8 (fun _ => ?_) (fun z => absurd z (by omega)))
  refine tp_tryNew (f := 0) hT hD hA d8 (by omega) (fun j _ h => by rw [Nat.zero_testBit] at h; exact absurd h (by decide)) (br_t (by decide) (H _ _ ⟨p, A, D, _, _, _, _, _, _, _, rfl, hT, hD, hA⟩)) (fun id b1 b2 b3 b4 b5 hid pid h1 h2 => br_t (by decide) (H _ _ ⟨p, A, _, _, _, _, _, _, _, _, rfl, tp_T_D hT pid, h1, h2⟩)) (fun id b1 b2 b3 b4 b5 hid pid h1 h2 F => ?_)
  have hc := hT.2.2.1
  refine br_f (nI_pos (by omega)) (tp_settle (by omega) d8 (H _ _ ⟨p ||| 2 ^ id, tp_up A id 0, tp_up D id d, _, _, _, _, _, _, _, rfl, tp_T_new hT hid (fun j _ h => by rw [Nat.zero_testBit] at h; exact absurd h (by decide)) F, ?_, tp_put (v := 0) h2 (by omega)⟩))
  intro j hj
  by_cases e : j = id
  · rw [e, pk_us, tp_up_s]
    exact ⟨rfl, by omega⟩
  · rw [pk_un e]
    exact h1 j hj
theorem tp_addB {post : Int32 → St1 → Prop} {d j : Nat} (hT : tp_T m cap p A D) (hD : tp_H a1 D 9) (hA : tp_H a2 A 128) (d1 : 1 ≤ d) (d8 : d ≤ 8) (hj : j < 8) (H : ∀ r u, tp_Z m cap u → post r u) :
    wpX_addBefore post (nI m, nI cap, nI p, 0, 0, a1, a2, a3, a4, a5, a6, a7) (nI d) (nI j) := by
  obtain ⟨hm, hp, hc, hpc, hK, hF⟩ := hT
  have hT : tp_T m cap p A D := ⟨hm, hp, hc, hpc, hK, hF⟩
  unfold wpX_addBefore
  refine pk_lt d 1 (fun z => absurd z (by omega)) (fun _ => pk_lt 8 d (fun z => absurd z (by omega)) (fun _ => ?_))
  refine tp_holds hp hc hj hpc (fun j7 pj => br_f (by decide) ?_) (fun _ => br_t rfl (H _ _ ⟨p, A, D, _, _, _, _, _, _, _, rfl, hT, hD, hA⟩))
  rw [tp_shl j hj]
  have hf : ∀ k, k < 7 → (2 ^ j).testBit k = true → p.testBit k = true := by
    intro k hk b
    rw [tp_pw_b j j7 k hk] at b
    rw [of_decide_eq_true b]
    exact pj
  refine tp_tryNew (f := 2 ^ j) hT hD hA d8 (tp_pw_lt j j7) hf (br_t (by decide) (H _ _ ⟨p, A, D, _, _, _, _, _, _, _, rfl, hT, hD, hA⟩)) (fun id b1 b2 b3 b4 b5 hid pid h1 h2 => br_t (by decide) (H _ _ ⟨p, A, _, _, _, _, _, _, _, _, rfl, tp_T_D hT pid, h1, h2⟩)) (fun id b1 b2 b3 b4 b5 hid pid h1 h2 F => ?_)
  have e1 : upd (upd b2 id 0) (nI id).toNatClampNeg (nI (2 ^ j)).toInt8.toInt32 = upd (upd b2 id 0) id (nI (2 ^ j)) := by rw [nI_clamp (by omega), tp_by7 _ (tp_pw_lt j j7)]
  refine br_f (nI_pos (by omega)) (tp_settle (by omega) d8 ⟨pk_in id 7 (by omega), nm_r e1 (H _ _ ⟨p ||| 2 ^ id, tp_up A id (2 ^ j), tp_up D id d, _, _, _, _, _, _, _, rfl, tp_T_new hT hid hf F, ?_, tp_put3 h2 (tp_pw_lt j j7)⟩)⟩)
  intro k hk
  by_cases e : k = id
  · rw [e, pk_us, tp_up_s]
    exact ⟨rfl, by omega⟩
  · rw [pk_un e]
    exact h1 k hk
theorem tp_setD {post : Int32 → St1 → Prop} {d i : Nat} (hT : tp_T m cap p A D) (hD : tp_H a1 D 9) (hA : tp_H a2 A 128) (d1 : 1 ≤ d) (d8 : d ≤ 8) (hi : i < 8) (H : ∀ r u, tp_Z m cap u → post r u) :
    wpX_setDeadline post (nI m, nI cap, nI p, 0, 0, a1, a2, a3, a4, a5, a6, a7) (nI i) (nI d) := by
  obtain ⟨hm, hp, hc, hpc, hK, hF⟩ := hT
  have hT : tp_T m cap p A D := ⟨hm, hp, hc, hpc, hK, hF⟩
  unfold wpX_setDeadline
  refine tp_holds hp hc hi hpc (fun i7 pi => br_f (by decide) ?_) (fun _ => br_t rfl (H _ _ ⟨p, A, D, _, _, _, _, _, _, _, rfl, hT, hD, hA⟩))
  have di := (hD i i7).2
  have e1 : upd a1 (nI i).toNatClampNeg (nI d).toInt8.toInt32 = upd a1 i (nI d) := by rw [nI_clamp (by omega), tp_by7 d (by omega)]
  have e2 : upd (upd a1 i (nI d)) (nI i).toNatClampNeg (nI (D i)).toInt8.toInt32 = upd (upd a1 i (nI d)) i (nI (D i)) := by rw [nI_clamp (by omega), tp_by7 _ (by omega)]
  refine pk_lt d 1 (fun z => absurd z (by omega)) (fun _ => pk_le d 8 (fun _ => ⟨pk_in i 7 i7, nm_r (e' := nI (D i)) (by rw [nI_clamp (by omega)]; exact (hD i i7).1) ⟨pk_in i 7 i7, nm_r e1 ?_⟩⟩) (fun z => absurd z (by omega)))
  exact tp_feas hm hp hA hK (tp_put hD (by omega)) (fun F b3 b4 b5 => br_f (by decide) (H _ _ ⟨p, A, tp_up D i d, _, _, _, _, _, _, _, rfl, ⟨hm, hp, hc, hpc, hK, F⟩, tp_put hD (by omega), hA⟩))
    (fun b3 b4 b5 => br_t rfl ⟨pk_in i 7 i7, nm_r e2 (H _ _ ⟨p, A, D, _, _, _, _, _, _, _, rfl, hT, tp_put2 hD i7 rfl, hA⟩)⟩)
theorem tp_tryLink {post : Int32 → St1 → Prop} {i j : Nat} (hT : tp_T m cap p A D) (hD : tp_H a1 D 9) (hA : tp_H a2 A 128) (hi : i < 8) (hj : j < 8)
    (Hs : ∀ r b2 b3 b4 b5, ¬ r = 0 → tp_H b2 A 128 → post r (nI m, nI cap, nI p, fk, sk, a1, b2, b3, b4, b5, a6, a7))
    (Hl : i < 7 → j < 7 → (A i).testBit j = true → post 0 (nI m, nI cap, nI p, fk, sk, a1, a2, a3, a4, a5, a6, a7))
    (H1 : ∀ b2 b3 b4 b5, i < 7 → j < 7 → p.testBit i = true → p.testBit j = true → (A i).testBit j = false → tp_H b2 A 128 → tp_F m p.testBit (fun k l => (tp_up A i (A i ||| 2 ^ j) k).testBit l) D → post 0 (nI m, nI cap, nI p, fk, sk, a1, b2, b3, b4, b5, a6, a7)) :
    wpX_tryLink post (nI m, nI cap, nI p, fk, sk, a1, a2, a3, a4, a5, a6, a7) (nI i) (nI j) := by
  obtain ⟨hm, hp, hc, hpc, hK, hF⟩ := hT
  unfold wpX_tryLink
  refine tp_holds hp hc hi hpc (fun i7 pi => br_f (by decide) ?_) (fun _ => br_t rfl (Hs _ _ _ _ _ (by decide) hA))
  refine tp_holds hp hc hj hpc (fun j7 pj => br_f (by decide) ?_) (fun _ => br_t rfl (Hs _ _ _ _ _ (by decide) hA))
  refine pk_eq i j (fun _ => Hs _ _ _ _ _ (by decide) hA) (fun _ => ?_)
  refine tp_linked hp hc hpc hA hK hi hj (fun i7 j7 b => br_f (by decide) (Hl i7 j7 b)) (fun b => br_t rfl ?_)
  have b := b i7 j7
  refine tp_close hA (fun b3 B hB hW => ⟨pk_in j 7 j7, ?_⟩)
  rw [nI_clamp (show j < 2 ^ 31 by omega), (hB j j7).1]
  have ai := (hA i i7).2
  have al : A i ||| 2 ^ j < 128 := tp_or_lt ai (tp_pw_lt j j7)
  have e1 : upd a2 (nI i).toNatClampNeg ((nI (A i) ||| ((1 : Int32) <<< (nI j &&& 31))).toInt8.toInt32) = upd a2 i (nI (A i ||| 2 ^ j)) := by rw [nI_clamp (by omega), tp_shl j hj, tp_orB ai (tp_pw_lt j j7)]
  have e2 : upd (upd a2 i (nI (A i ||| 2 ^ j))) (nI i).toNatClampNeg (nI (A i)).toInt8.toInt32 = upd (upd a2 i (nI (A i ||| 2 ^ j))) i (nI (A i)) := by rw [nI_clamp (by omega), tp_by7 _ ai]
  have h2 : tp_H (upd (upd a2 i (nI (A i ||| 2 ^ j))) i (nI (A i))) A 128 := tp_put2 hA i7 rfl
  have hK' : ∀ k l, k < 7 → l < 7 → (tp_up A i (A i ||| 2 ^ j) k).testBit l = true → p.testBit k = true ∧ p.testBit l = true := by
    intro k l hk hl t
    by_cases e : k = i
    · rw [e, tp_up_s, tp_set_b j7 hl, Bool.or_eq_true] at t
      rw [e]
      refine ⟨pi, ?_⟩
      rcases t with t | t
      · exact (hK i l i7 hl t).2
      · rw [of_decide_eq_true t]
        exact pj
    · rw [tp_up_n _ _ e] at t
      exact hK k l hk hl t
  refine ek_if (tp_bit0 i hi (B j) (hB j j7).2) (fun _ => ⟨pk_in i 7 i7, nm_r (e' := nI (A i)) (by rw [nI_clamp (by omega)]; exact (hA i i7).1) ⟨pk_in i 7 i7, nm_r e1 ?_⟩⟩) (fun _ => Hs _ _ _ _ _ (by decide) hA)
  exact tp_feas hm hp (tp_put hA al) hK' hD (fun F c3 c4 c5 => ⟨pk_in i 7 i7, nm_r e2 (br_f (by decide) (H1 _ _ _ _ i7 j7 pi pj b h2 F))⟩) (fun c3 c4 c5 => ⟨pk_in i 7 i7, nm_r e2 (br_t rfl (Hs _ _ _ _ _ (by decide) h2))⟩)
theorem tp_link {post : Int32 → St1 → Prop} {i j : Nat} (hT : tp_T m cap p A D) (hD : tp_H a1 D 9) (hA : tp_H a2 A 128) (hi : i < 8) (hj : j < 8) (H : ∀ r u, tp_Z m cap u → post r u) :
    wpX_link post (nI m, nI cap, nI p, 0, 0, a1, a2, a3, a4, a5, a6, a7) (nI i) (nI j) := by
  obtain ⟨hm, hp, hc, hpc, hK, hF⟩ := hT
  have hT : tp_T m cap p A D := ⟨hm, hp, hc, hpc, hK, hF⟩
  unfold wpX_link
  refine tp_linked hp hc hpc hA hK hi hj (fun i7 j7 b => ?_) (fun b => ?_)
  · exact tp_tryLink hT hD hA hi hj (fun r b2 b3 b4 b5 hr h2 => br_f hr (H _ _ ⟨p, A, D, _, _, _, _, _, _, _, rfl, hT, hD, h2⟩)) (fun _ _ _ => br_t rfl (br_f (by decide) (H _ _ ⟨p, A, D, _, _, _, _, _, _, _, rfl, hT, hD, hA⟩)))
      (fun b2 b3 b4 b5 _ _ _ _ b' => by rw [b] at b'; exact absurd b' (by decide))
  · refine tp_tryLink hT hD hA hi hj (fun r b2 b3 b4 b5 hr h2 => br_f hr (H _ _ ⟨p, A, D, _, _, _, _, _, _, _, rfl, hT, hD, h2⟩)) (fun i7 j7 b' => by rw [b i7 j7] at b'; exact absurd b' (by decide)) (fun b2 b3 b4 b5 i7 j7 pi pj _ h2 F => br_t rfl (br_t rfl ⟨pk_in i 7 i7, pk_in i 7 i7, ?_⟩))
    have ai := (h2 i i7).2
    have e1 : upd b2 (nI i).toNatClampNeg ((b2 (nI i).toNatClampNeg ||| ((1 : Int32) <<< (nI j &&& 31))).toInt8.toInt32) = upd b2 i (nI (A i ||| 2 ^ j)) := by rw [nI_clamp (by omega), (h2 i i7).1, tp_shl j hj, tp_orB ai (tp_pw_lt j j7)]
    refine nm_r e1 (H _ _ ⟨p, tp_up A i (A i ||| 2 ^ j), D, _, _, _, _, _, _, _, rfl, ⟨hm, hp, hc, hpc, fun k l hk hl t => ?_, F⟩, hD, tp_put h2 (tp_or_lt ai (tp_pw_lt j j7))⟩)
    by_cases e : k = i
    · rw [e, tp_up_s, tp_set_b j7 hl, Bool.or_eq_true] at t
      rw [e]
      refine ⟨pi, ?_⟩
      rcases t with t | t
      · exact (hK i l i7 hl t).2
      · rw [of_decide_eq_true t]
        exact pj
    · rw [tp_up_n _ _ e] at t
      exact hK k l hk hl t
theorem tp_unlink {post : Int32 → St1 → Prop} {i j : Nat} (hT : tp_T m cap p A D) (hD : tp_H a1 D 9) (hA : tp_H a2 A 128) (hi : i < 8) (hj : j < 8) (H : ∀ r u, tp_Z m cap u → post r u) :
    wpX_unlink post (nI m, nI cap, nI p, 0, 0, a1, a2, a3, a4, a5, a6, a7) (nI i) (nI j) := by
  obtain ⟨hm, hp, hc, hpc, hK, hF⟩ := hT
  have hT : tp_T m cap p A D := ⟨hm, hp, hc, hpc, hK, hF⟩
  unfold wpX_unlink
  refine tp_linked hp hc hpc hA hK hi hj (fun i7 j7 b => br_f (by decide) ⟨pk_in i 7 i7, pk_in i 7 i7, ?_⟩) (fun b => br_t rfl (H _ _ ⟨p, A, D, _, _, _, _, _, _, _, rfl, hT, hD, hA⟩))
  have ai := (hA i i7).2
  have e1 : upd a2 (nI i).toNatClampNeg ((a2 (nI i).toNatClampNeg &&& (((1 : Int32) <<< (nI j &&& 31)) ^^^ (-1))).toInt8.toInt32) = upd a2 i (nI (tp_cl (A i) j)) := by rw [nI_clamp (by omega), (hA i i7).1, tp_clI j j7 _ ai, tp_by7 _ (tp_cl_lt j ai)]
  have sub : ∀ k l, k < 7 → l < 7 → (tp_up A i (tp_cl (A i) j) k).testBit l = true → (A k).testBit l = true := by
    intro k l hk hl t
    by_cases e : k = i
    · rw [e, tp_up_s, tp_cl_b j j7 l hl _ ai, Bool.and_eq_true] at t
      rw [e]
      exact t.1
    · rw [tp_up_n _ _ e] at t
      exact t
  exact nm_r e1 (H _ _ ⟨p, tp_up A i (tp_cl (A i) j), D, _, _, _, _, _, _, _, rfl, ⟨hm, hp, hc, hpc, fun k l hk hl t => hK k l hk hl (sub k l hk hl t), tp_F_sub (fun _ _ q => q) (fun k l hk hl _ _ t => sub k l hk hl t) (fun _ _ _ => Nat.le_refl _) hF⟩, hD, tp_put hA (tp_cl_lt j ai)⟩)
theorem tp_remove {post : Int32 → St1 → Prop} {i : Nat} (hT : tp_T m cap p A D) (hD : tp_H a1 D 9) (hA : tp_H a2 A 128) (hi : i < 8) (H : ∀ r u, tp_Z m cap u → post r u) :
    wpX_remove post (nI m, nI cap, nI p, 0, 0, a1, a2, a3, a4, a5, a6, a7) (nI i) := by
  obtain ⟨hm, hp, hc, hpc, hK, hF⟩ := hT
  have hT : tp_T m cap p A D := ⟨hm, hp, hc, hpc, hK, hF⟩
  unfold wpX_remove
  refine tp_holds hp hc hi hpc (fun i7 pi => br_f (by decide) (nm_r (tp_clI i i7 p hp) ⟨pk_in i 7 i7, ?_⟩)) (fun _ => br_t rfl (H _ _ ⟨p, A, D, _, _, _, _, _, _, _, rfl, hT, hD, hA⟩))
  have e1 : upd a2 (nI i).toNatClampNeg 0 = upd a2 i (nI 0) := by rw [nI_clamp (by omega)]; rfl
  have h0 : tp_H (upd a2 i (nI 0)) (tp_up A i 0) 128 := tp_put hA (by omega)
  refine nm_r e1 ?_
  refine Exists.elim (pk_loop (fun n k s => wX_remove_33 post (nI i) (nI m) (nI cap) (nI (tp_cl p i)) 0 0 n (nI k) a1 s a3 a4 a5 a6 a7)
    (fun k s => ∀ j, j < 7 → s j = nI (if j < k then tp_cl (tp_up A i 0 j) i else tp_up A i 0 j)) 7 0 (upd a2 i (nI 0)) (by omega) (fun j hj => ?_) ?_ ?_) (fun n h => ⟨n, h⟩)
  · rw [if_neg (by omega)]
    exact (h0 j hj).1
  · intro n s h
    have h' : tp_H s (fun j => tp_cl (tp_up A i 0 j) i) 128 := by
      intro j hj
      refine ⟨?_, tp_cl_lt i (h0 j hj).2⟩
      rw [h j hj, if_pos hj]
    have sub : ∀ k l, k < 7 → l < 7 → (tp_cl (tp_up A i 0 k) i).testBit l = true → k ≠ i ∧ l ≠ i ∧ (A k).testBit l = true := by
      intro k l hk hl t
      rw [tp_cl_b i i7 l hl _ (h0 k hk).2, Bool.and_eq_true] at t
      by_cases e : k = i
      · rw [e, tp_up_s, Nat.zero_testBit] at t
        exact absurd t.1 (by decide)
      · rw [tp_up_n _ _ e] at t
        refine ⟨e, fun el => ?_, t.1⟩
        rw [decide_eq_true el] at t
        exact absurd t.2 (by decide)
    have cl : ∀ k, k < 7 → (tp_cl p i).testBit k = (p.testBit k && !decide (k = i)) := fun k hk => tp_cl_b i i7 k hk p hp
    refine pk_le 7 7 (fun _ => H _ _ ⟨tp_cl p i, fun j => tp_cl (tp_up A i 0 j) i, D, _, _, _, _, _, _, _, rfl, ⟨hm, tp_cl_lt i hp, hc, fun j hj t => ?_, fun k l hk hl t => ?_, ?_⟩, hD, h'⟩) (fun z => absurd z (by omega))
    · rw [cl j hj, Bool.and_eq_true] at t
      exact hpc j hj t.1
    · obtain ⟨n1, n2, t⟩ := sub k l hk hl t
      have q := hK k l hk hl t
      rw [cl k hk, cl l hl, q.1, q.2, decide_eq_false n1, decide_eq_false n2]
      exact ⟨rfl, rfl⟩
    · refine tp_F_sub (fun k hk t => ?_) (fun k l hk hl _ _ t => (sub k l hk hl t).2.2) (fun _ _ _ => Nat.le_refl _) hF
      rw [cl k hk, Bool.and_eq_true] at t
      exact t.1
  · intro n k s hk7 h hk
    have ek : s k = nI (tp_up A i 0 k) := by rw [h k hk7, if_neg (by omega)]
    have e2 : upd s (nI k).toNatClampNeg ((s (nI k).toNatClampNeg &&& (((1 : Int32) <<< (nI i &&& 31)) ^^^ (-1))).toInt8.toInt32) = upd s k (nI (tp_cl (tp_up A i 0 k) i)) := by
      rw [nI_clamp (by omega), ek, tp_clI i i7 _ (h0 k hk7).2, tp_by7 _ (tp_cl_lt i (h0 k hk7).2)]
    refine pk_le 7 k (fun z => absurd z (by omega)) (fun _ => ⟨pk_in k 7 hk7, pk_in k 7 hk7, nm_r e2 (nm_r (nI_1 k) (hk _ (fun j hj => ?_)))⟩)
    by_cases e : j = k
    · rw [e, pk_us, if_pos (by omega)]
    · rw [pk_un e, h j hj]
      by_cases z : j < k
      · rw [if_pos z, if_pos (by omega)]
      · rw [if_neg z, if_neg (by omega)]
theorem tp_turn {post : St1 → Prop} {w x y : Int32} {u : St1} (hZ : tp_Z m cap u) (H : ∀ u, tp_Z m cap u → post u) : wpL_turn post u w x y := by
  obtain ⟨p, A, D, a1, a2, a3, a4, a5, a6, a7, rfl, hT, hD, hA⟩ := hZ
  obtain ⟨d, hd, ed⟩ := pk_andE x (m := 7) 3 (by decide)
  obtain ⟨i, hi, ei⟩ := pk_andE y (m := 7) 3 (by decide)
  obtain ⟨j, hj, ej⟩ := pk_andE (y >>> ((3 : Int32) &&& 31)) (m := 7) 3 (by decide)
  unfold wpL_turn
  refine nm_r (e' := nI (1 + d)) (by rw [ed]; exact nI_add 1 d) (nm_r ei (nm_r ej ?_))
  have d1 : 1 ≤ 1 + d := by omega
  have d8 : 1 + d ≤ 8 := by omega
  have hi8 : i < 8 := by omega
  have hj8 : j < 8 := by omega
  refine br_c (fun _ => br_c (fun _ => br_c (fun _ => br_c (fun _ => br_c (fun _ => br_c (fun _ => ?_) (fun _ => ?_)) (fun _ => ?_)) (fun _ => ?_)) (fun _ => ?_)) (fun _ => ?_)) (fun _ => ?_)
  · exact H _ ⟨p, A, D, a1, a2, a3, a4, a5, a6, a7, rfl, hT, hD, hA⟩
  · exact tp_remove hT hD hA hi8 (fun r u h => by obtain ⟨f1, f2, f3, f4, f5, b1, b2, b3, b4, b5, b6, b7⟩ := u; exact H _ h)
  · exact tp_unlink hT hD hA hi8 hj8 (fun r u h => by obtain ⟨f1, f2, f3, f4, f5, b1, b2, b3, b4, b5, b6, b7⟩ := u; exact H _ h)
  · exact tp_link hT hD hA hi8 hj8 (fun r u h => by obtain ⟨f1, f2, f3, f4, f5, b1, b2, b3, b4, b5, b6, b7⟩ := u; exact H _ h)
  · exact tp_setD hT hD hA d1 d8 hi8 (fun r u h => by obtain ⟨f1, f2, f3, f4, f5, b1, b2, b3, b4, b5, b6, b7⟩ := u; exact H _ h)
  · exact tp_addB hT hD hA d1 d8 hj8 (fun r u h => by obtain ⟨f1, f2, f3, f4, f5, b1, b2, b3, b4, b5, b6, b7⟩ := u; exact H _ h)
  · exact tp_add hT hD hA d1 d8 (fun r u h => by obtain ⟨f1, f2, f3, f4, f5, b1, b2, b3, b4, b5, b6, b7⟩ := u; exact H _ h)
end
end
section
/-! the law -/
theorem tp_T0 {m cap : Nat} (hm : m = 1 ∨ m = 2) (hc : cap ≤ 7) : tp_T m cap 0 (fun _ => 0) (fun _ => 0) := by
  have none : ∀ j, (0 : Nat).testBit j = true → False := fun j h => by rw [Nat.zero_testBit] at h; exact absurd h (by decide)
  refine ⟨hm, by omega, hc, fun j _ h => (none j h).elim, fun i j _ _ h => (none j h).elim, fun _ => 0, fun i _ h => (none i h).elim, fun i j _ _ h => (none i h).elim, fun s => ?_⟩
  rw [tp_cn_zero 7 (fun j _ => by rw [Nat.zero_testBit]; rfl)]
  exact Nat.zero_le _
theorem tp_run {xs : Nat → Int32} {L m cap kc ks : Nat} {u : St1} (hL : L ≤ 260) (hZ : tp_Z m cap u) :
    ∃ n, wL_law_49 (fun r => r = 1) L xs (nI m) kc ks n (nI 2) u.1 u.2.1 u.2.2.1 u.2.2.2.1 u.2.2.2.2.1 u.2.2.2.2.2.1 u.2.2.2.2.2.2.1 u.2.2.2.2.2.2.2.1 u.2.2.2.2.2.2.2.2.1 u.2.2.2.2.2.2.2.2.2.1 u.2.2.2.2.2.2.2.2.2.2.1 u.2.2.2.2.2.2.2.2.2.2.2 := by
  refine loop_m (σ := Nat × St1) (fun n s => wL_law_49 (fun r => r = 1) L xs (nI m) kc ks n (nI s.1) s.2.1 s.2.2.1 s.2.2.2.1 s.2.2.2.2.1 s.2.2.2.2.2.1 s.2.2.2.2.2.2.1 s.2.2.2.2.2.2.2.1 s.2.2.2.2.2.2.2.2.1 s.2.2.2.2.2.2.2.2.2.1 s.2.2.2.2.2.2.2.2.2.2.1 s.2.2.2.2.2.2.2.2.2.2.2.1 s.2.2.2.2.2.2.2.2.2.2.2.2)
    (fun s => s.1 ≤ 1000 ∧ tp_Z m cap s.2) (fun s => 2000 - s.1) ?_ (2, u) ⟨show 2 ≤ 1000 by omega, hZ⟩
  rintro n ⟨k, f1, f2, f3, f4, f5, b1, b2, b3, b4, b5, b6, b7⟩ ⟨hk, h⟩ hs
  have hk : k ≤ 1000 := hk
  refine pk_le L (k + 2) (fun z => ?_) (fun z => ⟨pk_in k L (by omega), pk_in (k + 1) L (by omega) (nI_1 k), pk_in (k + 2) L (by omega) (nI_add k 2), ?_⟩) rfl (nI_add k 2)
  · obtain ⟨p, A, D, a1, a2, a3, a4, a5, a6, a7, eu, hT, hD, hA⟩ := h
    cases eu
    obtain ⟨hm, hp, hc, hpc, hK, hF⟩ := hT
    have hT : tp_T m cap p A D := ⟨hm, hp, hc, hpc, hK, hF⟩
    refine tp_span hm hp hA hK hD hF (fun b3 b4 b5 => ?_)
    have e8 : tp_l m p A D 0 = 8 := if_pos rfl
    have e1 : tp_l m p A D 1 = tp_sp m p A D := if_neg (by decide)
    have g0 := fun (post : Int32 → St1 → Prop) (b3 b4 b5 : Nat → Int32) H => tp_lgood (post := post) (b := 0) (fk := 0) (sk := 0) (a3 := b3) (a4 := b4) (a5 := b5) (a6 := b6) (a7 := b7) hT hD hA (Or.inl rfl) ⟨Or.inl rfl, Or.inl rfl⟩ H
    rw [e8] at g0
    refine g0 _ b3 b4 b5 (fun f g b3 b4 b5 b6 b7 h => br_f (by decide) ?_)
    have g1 := fun (post : Int32 → St1 → Prop) H => tp_lgood (post := post) (b := 1) (fk := f) (sk := g) (a3 := b3) (a4 := b4) (a5 := b5) (a6 := b6) (a7 := b7) hT hD hA (Or.inr rfl) h H
    rw [e1] at g1
    refine g1 _ (fun f g b3 b4 b5 b6 b7 h => br_f (by decide) ?_)
    exact tp_least hT hD hA h (fun u => by obtain ⟨f1, f2, f3, f4, f5, c1, c2, c3, c4, c5, c6, c7⟩ := u; exact br_f (by decide) rfl)
  · refine tp_turn h (fun u h => ?_)
    obtain ⟨g1, g2, g3, g4, g5, c1, c2, c3, c4, c5, c6, c7⟩ := u
    exact nm_r (nI_add k 3) (hs (k + 3, g1, g2, g3, g4, g5, c1, c2, c3, c4, c5, c6, c7) ⟨by show k + 3 ≤ 1000; omega, h⟩ (by show 2000 - (k + 3) < 2000 - k; omega))
theorem tp_35 {xs : Nat → Int32} {L m cap : Nat} (hL : L ≤ 260) (hm : m = 1 ∨ m = 2) (h1 : 1 ≤ cap) (hc : cap ≤ 7) : wL_law_35 (fun r => r = 1) L xs (nI m) (nI cap) 0 0 := by
  refine ⟨by omega, by omega, 7, 49, by omega, by omega, ?_⟩
  refine ⟨by omega, by omega, by omega, by omega, by omega, by omega, by omega, by omega, by omega, by omega, by omega, by omega, by omega, by omega, ?_⟩
  have hZ : tp_Z m cap (nI m, nI cap, nI 0, 0, 0, fun _ => 0, fun _ => 0, fun _ => 0, fun _ => 0, fun _ => 0, fun _ => 0, fun _ => 0) :=
    ⟨0, fun _ => 0, fun _ => 0, _, _, _, _, _, _, _, rfl, tp_T0 hm hc, fun j _ => ⟨rfl, Nat.succ_pos 8⟩, fun j _ => ⟨rfl, Nat.succ_pos 127⟩⟩
  exact pk_le 1 m (fun _ => pk_le m 2 (fun _ => pk_le 1 cap (fun _ => pk_le cap 7 (fun _ => tp_run hL hZ) (fun z => absurd z (by omega))) (fun z => absurd z (by omega))) (fun z => absurd z (by omega))) (fun z => absurd z (by omega))
theorem tp_16 {xs : Nat → Int32} {L m : Nat} (hL : L ≤ 260) (hm : m = 1 ∨ m = 2) : wL_law_16 (fun r => r = 1) L xs (nI m) 0 0 := by
  obtain ⟨d, hd, ed⟩ := pk_andE (xs (1 : Int32).toNatClampNeg) (m := 3) 2 (by decide)
  refine pk_le L 1 (fun _ => tp_35 (cap := 7) hL hm (by omega) (by omega)) (fun z => ⟨pk_in 1 L z, ?_⟩)
  rw [ed, show (4 : Int32) + nI d = nI (4 + d) from nI_add 4 d]
  exact tp_35 hL hm (by omega) (by omega)
theorem i_vc (xs : Nat → Int32) (L : Nat) (hL : L ≤ 260) : wpL_law (fun r => r = 1) L xs := by
  obtain ⟨d, hd, ed⟩ := pk_andE (xs (0 : Int32).toNatClampNeg) (m := 1) 1 (by decide)
  refine pk_le L 0 (fun _ => tp_16 (m := 1) hL (Or.inl rfl)) (fun z => ⟨pk_in 0 L z, ?_⟩)
  rw [ed, show (1 : Int32) + nI d = nI (1 + d) from nI_add 1 d]
  exact tp_16 hL (by omega)
end
