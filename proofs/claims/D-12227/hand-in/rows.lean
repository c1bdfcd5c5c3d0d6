section
/-! ===== pure: counting ===== -/
noncomputable def mm_cnt (P : Nat → Prop) : Nat → Nat
  | 0 => 0
  | n + 1 => mm_cnt P n + (@ite Nat (P n) (Classical.propDecidable (P n)) 1 0)
theorem mm_cnt_t {P : Nat → Prop} {n : Nat} (h : P n) : mm_cnt P (n + 1) = mm_cnt P n + 1 := by
  show mm_cnt P n + _ = _
  rw [if_pos h]
theorem mm_cnt_f {P : Nat → Prop} {n : Nat} (h : ¬ P n) : mm_cnt P (n + 1) = mm_cnt P n := by
  show mm_cnt P n + _ = _
  rw [if_neg h, Nat.add_zero]
theorem mm_cnt_le (P : Nat → Prop) (n : Nat) : mm_cnt P n ≤ n := by
  induction n with
  | zero => exact Nat.le_refl 0
  | succ n ih =>
    by_cases h : P n
    · rw [mm_cnt_t h]; omega
    · rw [mm_cnt_f h]; omega
theorem mm_cnt_up (P : Nat → Prop) {a b : Nat} (h : a ≤ b) : mm_cnt P a ≤ mm_cnt P b := by
  induction b with
  | zero => rw [show a = 0 by omega]; exact Nat.le_refl _
  | succ b ih =>
    rcases Nat.lt_or_ge b a with z | z
    · rw [show a = b + 1 by omega]; exact Nat.le_refl _
    · have := ih z
      by_cases h : P b
      · rw [mm_cnt_t h]; omega
      · rw [mm_cnt_f h]; omega
theorem mm_cnt_mono {P Q : Nat → Prop} {n : Nat} (h : ∀ i, i < n → P i → Q i) : mm_cnt P n ≤ mm_cnt Q n := by
  induction n with
  | zero => exact Nat.le_refl 0
  | succ n ih =>
    have := ih (fun i hi => h i (by omega))
    by_cases hp : P n
    · rw [mm_cnt_t hp, mm_cnt_t (h n (by omega) hp)]; omega
    · rw [mm_cnt_f hp]
      exact Nat.le_trans this (mm_cnt_up Q (by omega))
theorem mm_cnt_more {P Q : Nat → Prop} {n s : Nat} (h : ∀ i, i < n → P i → Q i) (hs : s < n) (h1 : Q s) (h2 : ¬ P s) : mm_cnt P n < mm_cnt Q n := by
  induction n with
  | zero => omega
  | succ n ih =>
    by_cases e : s = n
    · rw [e] at h1 h2
      rw [mm_cnt_f h2, mm_cnt_t h1]
      have := mm_cnt_mono (n := n) (fun i hi => h i (by omega))
      omega
    · have := ih (fun i hi => h i (by omega)) (by omega)
      by_cases hp : P n
      · rw [mm_cnt_t hp, mm_cnt_t (h n (by omega) hp)]; omega
      · rw [mm_cnt_f hp]
        exact Nat.lt_of_lt_of_le this (mm_cnt_up Q (by omega))
theorem mm_php {P : Nat → Prop} : ∀ (n K : Nat) (f : Nat → Nat), (∀ k, k < K → f k < n ∧ P (f k)) → (∀ i j, i < j → j < K → f i ≠ f j) → K ≤ mm_cnt P n := by
  intro n
  induction n with
  | zero =>
    intro K f h1 h2
    rcases Nat.eq_zero_or_pos K with z | z
    · omega
    · have := (h1 0 z).1
      omega
  | succ n ih =>
    intro K f h1 h2
    by_cases hx : ∃ j, j < K ∧ f j = n
    · obtain ⟨j, hj, ej⟩ := hx
      have hP : P n := by have := (h1 j hj).2; rwa [ej] at this
      rw [mm_cnt_t hP]
      have := ih (K - 1) (fun i => if i < j then f i else f (i + 1)) (fun k hk => ?_) (fun a b hab hb => ?_)
      · omega
      · by_cases c : k < j
        · rw [if_pos c]
          have t := h1 k (by omega)
          have := h2 k j c hj
          exact ⟨by omega, t.2⟩
        · rw [if_neg c]
          have t := h1 (k + 1) (by omega)
          have := h2 j (k + 1) (by omega) (by omega)
          exact ⟨by omega, t.2⟩
      · by_cases c : a < j
        · rw [if_pos c]
          by_cases d : b < j
          · rw [if_pos d]; exact h2 a b hab (by omega)
          · rw [if_neg d]; exact h2 a (b + 1) (by omega) (by omega)
        · rw [if_neg c, if_neg (by omega)]
          exact h2 (a + 1) (b + 1) (by omega) (by omega)
    · have := ih K f (fun k hk => ?_) h2
      · exact Nat.le_trans this (mm_cnt_up P (by omega))
      · have t := h1 k hk
        have : f k ≠ n := fun e => hx ⟨k, hk, e⟩
        exact ⟨by omega, t.2⟩
/-! ===== the machines ===== -/
def mm_st (X : Nat → Nat) (p l : Nat) : Nat := 6 * (p / 6) + X (2 * p + l)
def mm_th (N : Nat → Nat) (p : Nat) : Prop := p < 12 ∧ p % 6 < N (p / 6)
def mm_ok (N X : Nat → Nat) (a1 a2 : Nat → Int32) : Prop := (∀ m, m < 2 → a1 m = nI (N m) ∧ 1 ≤ N m ∧ N m ≤ 6) ∧ (∀ p, mm_th N p → ∀ l, l < 2 → a2 (2 * p + l) = nI (X (2 * p + l)) ∧ X (2 * p + l) < N (p / 6))
def mm_cl (N X : Nat → Nat) : Prop := (∀ m, m < 2 → 1 ≤ N m ∧ N m ≤ 6) ∧ (∀ p, mm_th N p → ∀ l, l < 2 → X (2 * p + l) < N (p / 6))
theorem mm_ok_cl {N X : Nat → Nat} {a1 a2 : Nat → Int32} (h : mm_ok N X a1 a2) : mm_cl N X := ⟨fun m hm => (h.1 m hm).2, fun p hp l hl => (h.2 p hp l hl).2⟩
theorem mm_X6 {N X : Nat → Nat} (h : mm_cl N X) {p l : Nat} (hp : mm_th N p) (hl : l < 2) : X (2 * p + l) < 6 := by
  have h1 := h.2 p hp l hl
  have h2 := (h.1 (p / 6) (by have := hp.1; omega)).2
  omega
theorem mm_st_th {N X : Nat → Nat} (h : mm_cl N X) {p l : Nat} (hp : mm_th N p) (hl : l < 2) : mm_th N (mm_st X p l) ∧ mm_st X p l / 6 = p / 6 := by
  have h6 := mm_X6 h hp hl
  have h1 := h.2 p hp l hl
  have hp1 := hp.1
  have e1 : mm_st X p l / 6 = p / 6 := by unfold mm_st; omega
  have e2 : mm_st X p l % 6 = X (2 * p + l) := by unfold mm_st; omega
  refine ⟨⟨?_, ?_⟩, e1⟩
  · unfold mm_st; omega
  · rw [e1, e2]; exact h1
theorem mm_th0 {N : Nat → Nat} {p : Nat} (h6 : N 0 ≤ 6) (h : p < N 0) : mm_th N p := by
  have e1 : p / 6 = 0 := by omega
  have e2 : p % 6 = p := by omega
  exact ⟨by omega, by rw [e1, e2]; exact h⟩
theorem mm_th0' {N : Nat → Nat} {p : Nat} (h : mm_th N p) (e : p / 6 = 0) : p < N 0 := by
  have := h.2
  rw [e] at this
  omega
/-- no difference of at most d letters -/
def mm_eq (X : Nat → Nat) (A : Nat → Int32) : Nat → Nat → Nat → Prop
  | 0, _, _ => True
  | d + 1, p, q => A (2 * p) = A (2 * q) ∧ A (2 * p + 1) = A (2 * q + 1) ∧ mm_eq X A d (mm_st X p 0) (mm_st X q 0) ∧ mm_eq X A d (mm_st X p 1) (mm_st X q 1)
section
variable {X : Nat → Nat} {A : Nat → Int32}
theorem mm_eq_r (d : Nat) : ∀ p, mm_eq X A d p p := by
  induction d with
  | zero => exact fun _ => trivial
  | succ d ih => exact fun p => ⟨rfl, rfl, ih _, ih _⟩
theorem mm_eq_s {d : Nat} : ∀ {p q}, mm_eq X A d p q → mm_eq X A d q p := by
  induction d with
  | zero => exact fun _ => trivial
  | succ d ih => exact fun h => ⟨h.1.symm, h.2.1.symm, ih h.2.2.1, ih h.2.2.2⟩
theorem mm_eq_t {d : Nat} : ∀ {p q r}, mm_eq X A d p q → mm_eq X A d q r → mm_eq X A d p r := by
  induction d with
  | zero => exact fun _ _ => trivial
  | succ d ih => exact fun h g => ⟨h.1.trans g.1, h.2.1.trans g.2.1, ih h.2.2.1 g.2.2.1, ih h.2.2.2 g.2.2.2⟩
theorem mm_eq_d {d : Nat} : ∀ {p q}, mm_eq X A (d + 1) p q → mm_eq X A d p q := by
  induction d with
  | zero => exact fun _ => trivial
  | succ d ih => exact fun h => ⟨h.1, h.2.1, ih h.2.2.1, ih h.2.2.2⟩
theorem mm_eq_le {d e p q : Nat} (hde : d ≤ e) (h : mm_eq X A e p q) : mm_eq X A d p q := by
  induction e with
  | zero => rw [show d = 0 by omega]; trivial
  | succ e ih =>
    by_cases c : d = e + 1
    · rw [c]; exact h
    · exact ih (by omega) (mm_eq_d h)
theorem mm_eq_a {d p q l : Nat} (h : mm_eq X A (d + 1) p q) (hl : l < 2) : A (2 * p + l) = A (2 * q + l) := by
  rcases (show l = 0 ∨ l = 1 by omega) with e | e
  · rw [e]; exact h.1
  · rw [e]; exact h.2.1
theorem mm_eq_n {d p q l : Nat} (h : mm_eq X A (d + 1) p q) (hl : l < 2) : mm_eq X A d (mm_st X p l) (mm_st X q l) := by
  rcases (show l = 0 ∨ l = 1 by omega) with e | e
  · rw [e]; exact h.2.2.1
  · rw [e]; exact h.2.2.2
/-- at most one d -/
theorem mm_eq_u {d e p q : Nat} (h1 : mm_eq X A d p q) (h2 : ¬ mm_eq X A (d + 1) p q) (g1 : mm_eq X A e p q) (g2 : ¬ mm_eq X A (e + 1) p q) : d = e := by
  rcases Nat.lt_trichotomy d e with z | z | z
  · exact absurd (mm_eq_le (by omega) g1) h2
  · exact z
  · exact absurd (mm_eq_le (by omega) h1) g2
/-! Moore's bound on machine 0 -/
def mm_fresh (X : Nat → Nat) (A : Nat → Int32) (d s : Nat) : Prop := ∀ r, r < s → ¬ mm_eq X A d r s
theorem mm_rep (d x : Nat) : ∃ r, r ≤ x ∧ mm_eq X A d r x ∧ mm_fresh X A d r := by
  obtain ⟨k, h1, h2⟩ := pk_least (fun r => mm_eq X A d r x) ⟨x, mm_eq_r d x⟩
  refine ⟨k, ?_, h1, fun r hr g => h2 r hr (mm_eq_t g h1)⟩
  rcases Nat.lt_or_ge x k with z | z
  · exact absurd (mm_eq_r d x) (h2 x z)
  · exact z
theorem mm_split {d n x y : Nat} (hx : x < n) (hy : y < n) (h : mm_eq X A d x y) (h' : ¬ mm_eq X A (d + 1) x y) : mm_cnt (mm_fresh X A d) n < mm_cnt (mm_fresh X A (d + 1)) n := by
  obtain ⟨a, a1, a2, a3⟩ := mm_rep (X := X) (A := A) (d + 1) x
  obtain ⟨b, b1, b2, b3⟩ := mm_rep (X := X) (A := A) (d + 1) y
  have hab : mm_eq X A d a b := mm_eq_t (mm_eq_d a2) (mm_eq_t h (mm_eq_s (mm_eq_d b2)))
  have hm : ∀ i, i < n → mm_fresh X A d i → mm_fresh X A (d + 1) i := fun i _ hf r hr g => hf r hr (mm_eq_d g)
  rcases Nat.lt_trichotomy a b with z | z | z
  · exact mm_cnt_more hm (s := b) (by omega) b3 (fun hf => hf a z hab)
  · rw [z] at a2
    exact absurd (mm_eq_t (mm_eq_s a2) b2) h'
  · exact mm_cnt_more hm (s := a) (by omega) a3 (fun hf => hf b z (mm_eq_s hab))
theorem mm_moore {n : Nat} (hn : n ≤ 6) (hc : ∀ p l, p < n → l < 2 → mm_st X p l < n) {p q : Nat} (hp : p < n) (hq : q < n) (h : mm_eq X A 11 p q) : mm_eq X A 12 p q := by
  have key : ∀ d, (∃ e, e < d ∧ ∀ p q, p < n → q < n → mm_eq X A e p q → mm_eq X A (e + 1) p q) ∨ d ≤ mm_cnt (mm_fresh X A d) n := by
    intro d
    induction d with
    | zero => exact Or.inr (Nat.zero_le _)
    | succ d ih =>
      rcases ih with ⟨e, h1, h2⟩ | ih
      · exact Or.inl ⟨e, by omega, h2⟩
      · by_cases c : ∀ p q, p < n → q < n → mm_eq X A d p q → mm_eq X A (d + 1) p q
        · exact Or.inl ⟨d, by omega, c⟩
        · refine Or.inr ?_
          have : ∃ x y, x < n ∧ y < n ∧ mm_eq X A d x y ∧ ¬ mm_eq X A (d + 1) x y := by
            apply Classical.byContradiction
            intro g
            refine c (fun x y hx hy hxy => Classical.byContradiction (fun z => g ⟨x, y, hx, hy, hxy, z⟩))
          obtain ⟨x, y, hx, hy, h1, h2⟩ := this
          have := mm_split hx hy h1 h2
          omega
  rcases key 12 with ⟨e, h1, h2⟩ | g
  · have up : ∀ k, ∀ p q, p < n → q < n → mm_eq X A (e + k) p q → mm_eq X A (e + k + 1) p q := by
      intro k
      induction k with
      | zero => exact h2
      | succ k ih => exact fun p q hp hq g => ⟨g.1, g.2.1, ih _ _ (hc p 0 hp (by omega)) (hc q 0 hq (by omega)) g.2.2.1, ih _ _ (hc p 1 hp (by omega)) (hc q 1 hq (by omega)) g.2.2.2⟩
    have := up (11 - e) p q hp hq
    rw [show e + (11 - e) = 11 by omega] at this
    exact this h
  · have := mm_cnt_le (mm_fresh X A 12) n
    omega
/-! ===== words ===== -/
def mm_run (X : Nat → Nat) (p v : Nat) : Nat := if h : v ≤ 1 then p else mm_st X (mm_run X p (v / 2)) (v % 2)
termination_by v
decreasing_by omega
def mm_rsp (X : Nat → Nat) (A : Nat → Int32) (p v : Nat) : Int32 := if h : v ≤ 1 then 0 else 4 * mm_rsp X A p (v / 2) + A (2 * mm_run X p (v / 2) + v % 2)
termination_by v
decreasing_by omega
theorem mm_run_1 (p : Nat) : mm_run X p 1 = p := by
  rw [mm_run.eq_def X p 1, dif_pos (by omega)]
theorem mm_run_2 {p u l : Nat} (hu : 1 ≤ u) (hl : l < 2) : mm_run X p (2 * u + l) = mm_st X (mm_run X p u) l := by
  rw [mm_run.eq_def X p (2 * u + l), dif_neg (by omega), show (2 * u + l) / 2 = u by omega, show (2 * u + l) % 2 = l by omega]
theorem mm_rsp_1 (p : Nat) : mm_rsp X A p 1 = 0 := by
  rw [mm_rsp.eq_def X A p 1, dif_pos (by omega)]
theorem mm_rsp_2 {p u l : Nat} (hu : 1 ≤ u) (hl : l < 2) : mm_rsp X A p (2 * u + l) = 4 * mm_rsp X A p u + A (2 * mm_run X p u + l) := by
  rw [mm_rsp.eq_def X A p (2 * u + l), dif_neg (by omega), show (2 * u + l) / 2 = u by omega, show (2 * u + l) % 2 = l by omega]
theorem mm_run_th {N : Nat → Nat} (h : mm_cl N X) {p : Nat} (hp : mm_th N p) (v : Nat) : mm_th N (mm_run X p v) ∧ mm_run X p v / 6 = p / 6 := by
  induction v using Nat.strongRecOn with
  | ind v ih =>
    rw [mm_run.eq_def X p v]
    by_cases c : v ≤ 1
    · rw [dif_pos c]; exact ⟨hp, rfl⟩
    · rw [dif_neg c]
      have t := ih (v / 2) (by omega)
      have g := mm_st_th h t.1 (l := v % 2) (by omega)
      exact ⟨g.1, g.2.trans t.2⟩
theorem mm_run0 {N : Nat → Nat} (h : mm_cl N X) {x : Nat} (hx : x < N 0) (v : Nat) : mm_run X x v < N 0 := by
  have h6 := (h.1 0 (by omega)).2
  have t := mm_run_th h (mm_th0 h6 hx) v
  exact mm_th0' t.1 (by rw [t.2]; omega)
theorem mm_log {v : Nat} (hv : 1 ≤ v) : ∃ i, 2 ^ i ≤ v ∧ v < 2 ^ (i + 1) := by
  induction v using Nat.strongRecOn with
  | ind v ih =>
    by_cases c : v = 1
    · exact ⟨0, by rw [c]; decide, by rw [c]; decide⟩
    · obtain ⟨i, h1, h2⟩ := ih (v / 2) (by omega) (by omega)
      refine ⟨i + 1, ?_, ?_⟩
      · rw [Nat.pow_succ]; omega
      · rw [Nat.pow_succ]; omega
theorem mm_plt {i d v : Nat} (h1 : 2 ^ i ≤ v) (h2 : v < 2 ^ d) : i < d := by
  rcases Nat.lt_or_ge i d with z | z
  · exact z
  · have := Nat.pow_le_pow_right (n := 2) (by omega) z
    omega
theorem mm_G {p q e : Nat} : ∀ i u v, 1 ≤ u → v / 2 ^ i = u → i ≤ e → mm_rsp X A p u = mm_rsp X A q u → mm_eq X A e (mm_run X p u) (mm_run X q u) → mm_rsp X A p v = mm_rsp X A q v ∧ mm_eq X A (e - i) (mm_run X p v) (mm_run X q v) := by
  intro i
  induction i with
  | zero =>
    intro u v hu hv _ h1 h2
    rw [Nat.pow_zero, Nat.div_one] at hv
    rw [hv]
    exact ⟨h1, h2⟩
  | succ i ih =>
    intro u v hu hv hi h1 h2
    have hw : v / 2 / 2 ^ i = u := by rw [Nat.div_div_eq_div_mul, ← hv, Nat.pow_succ, Nat.mul_comm]
    have hw1 : 1 ≤ v / 2 := by
      rcases Nat.eq_zero_or_pos (v / 2) with z | z
      · rw [z, Nat.zero_div] at hw; omega
      · exact z
    obtain ⟨g1, g2⟩ := ih u (v / 2) hu hw (by omega) h1 h2
    rw [show e - i = e - (i + 1) + 1 by omega] at g2
    have ev : v = 2 * (v / 2) + v % 2 := by omega
    generalize v / 2 = w at *
    have hl : v % 2 < 2 := by omega
    generalize v % 2 = l at *
    rw [ev, mm_rsp_2 hw1 hl, mm_rsp_2 hw1 hl, mm_run_2 hw1 hl, mm_run_2 hw1 hl, g1, mm_eq_a g2 hl]
    exact ⟨rfl, mm_eq_n g2 hl⟩
theorem mm_F1 {p q d v : Nat} (h : mm_eq X A d p q) (hv : 1 ≤ v) (hd : v < 2 ^ (d + 1)) : mm_rsp X A p v = mm_rsp X A q v := by
  obtain ⟨i, h1, h2⟩ := mm_log hv
  have hi := mm_plt h1 hd
  have e : v / 2 ^ i = 1 := by
    apply Nat.div_eq_of_lt_le
    · omega
    · rw [Nat.pow_succ] at h2; omega
  refine (mm_G (e := d) i 1 v (by omega) e (by omega) ?_ ?_).1
  · rw [mm_rsp_1, mm_rsp_1]
  · rw [mm_run_1, mm_run_1]; exact h
/-- the least difference -/
def mm_ld (X : Nat → Nat) (A : Nat → Int32) (p q c : Nat) : Prop := 1 ≤ c ∧ (∀ v, 1 ≤ v → v < c → mm_rsp X A p v = mm_rsp X A q v) ∧ ¬ mm_rsp X A p c = mm_rsp X A q c
theorem mm_ld_u {p q c c' : Nat} (h : mm_ld X A p q c) (h' : mm_ld X A q p c') : c' = c := by
  rcases Nat.lt_trichotomy c' c with z | z | z
  · exact absurd (h.2.1 c' h'.1 z).symm h'.2.2
  · exact z
  · exact absurd (h'.2.1 c h.1 z).symm h.2.2
theorem mm_4 {r a b : Int32} (h : 4 * r + a = 4 * r + b) : a = b := by grind
end
end
section
/-! ===== breadth first over words ===== -/
def mm_rc (E : Nat → Nat → Prop) : Prop := (∀ u, E u u) ∧ (∀ u v, E u v → E v u) ∧ (∀ u v w, E u v → E v w → E u w) ∧ (∀ u v l, 1 ≤ u → 1 ≤ v → l < 2 → E u v → E (2 * u + l) (2 * v + l))
def mm_bf (E : Nat → Nat → Prop) (B K : Nat) (W : Nat → Nat) (c : Nat) : Prop :=
  1 ≤ K ∧ W 0 = 1 ∧ (∀ i j, i < j → j < K → W i < W j) ∧ (∀ i j, i < j → j < K → ¬ E (W j) (W i)) ∧ (∀ j, j < K → W j < c) ∧ (∀ v, 1 ≤ v → v < c → v < B → ∃ j, j < K ∧ W j ≤ v ∧ E v (W j))
section
variable {E : Nat → Nat → Prop} {B K : Nat} {W : Nat → Nat} {c : Nat}
theorem mm_bf_0 (hE : mm_rc E) : mm_bf E B 1 (fun _ => 1) 2 := by
  refine ⟨by omega, rfl, fun i j h1 h2 => absurd h2 (by omega), fun i j h1 h2 => absurd h2 (by omega), fun j _ => by dsimp only; omega, fun v h1 h2 _ => ⟨0, by omega, by dsimp only; omega, ?_⟩⟩
  rw [show v = 1 by omega]
  exact hE.1 1
theorem mm_bf_1 (h : mm_bf E B K W c) {j : Nat} (hj : j < K) : 1 ≤ W j := by
  rcases Nat.eq_zero_or_pos j with z | z
  · rw [z, h.2.1]; exact Nat.le_refl 1
  · have := h.2.2.1 0 j z hj
    omega
theorem mm_bf_le (h : mm_bf E B K W c) {i j : Nat} (hij : i ≤ j) (hj : j < K) : W i ≤ W j := by
  rcases Nat.lt_or_ge i j with z | z
  · exact Nat.le_of_lt (h.2.2.1 i j z hj)
  · rw [show i = j by omega]; exact Nat.le_refl _
theorem mm_bf_old (h : mm_bf E B K W c) {j : Nat} (hj : j < K) (hc : E c (W j)) : mm_bf E B K W (c + 1) := by
  obtain ⟨h1, h2, h3, h4, h5, h6⟩ := h
  refine ⟨h1, h2, h3, h4, fun i hi => Nat.lt_succ_of_lt (h5 i hi), fun v g1 g2 g3 => ?_⟩
  by_cases e : v = c
  · rw [e]; exact ⟨j, hj, Nat.le_of_lt (h5 j hj), hc⟩
  · exact h6 v g1 (by omega) g3
def mm_ups (W : Nat → Nat) (K c : Nat) : Nat → Nat := fun j => if j = K then c else W j
theorem mm_ups_s : mm_ups W K c K = c := if_pos rfl
theorem mm_ups_n {j : Nat} (h : j ≠ K) : mm_ups W K c j = W j := if_neg h
theorem mm_bf_new (hE : mm_rc E) (h : mm_bf E B K W c) (hc : ∀ j, j < K → ¬ E c (W j)) : mm_bf E B (K + 1) (mm_ups W K c) (c + 1) := by
  obtain ⟨h1, h2, h3, h4, h5, h6⟩ := h
  refine ⟨by omega, by rw [mm_ups_n (by omega)]; exact h2, fun i j hij hj => ?_, fun i j hij hj => ?_, fun j hj => ?_, fun v g1 g2 g3 => ?_⟩
  · rw [mm_ups_n (show i ≠ K by omega)]
    by_cases e : j = K
    · rw [e, mm_ups_s]; exact h5 i (by omega)
    · rw [mm_ups_n e]; exact h3 i j hij (by omega)
  · rw [mm_ups_n (show i ≠ K by omega)]
    by_cases e : j = K
    · rw [e, mm_ups_s]; exact hc i (by omega)
    · rw [mm_ups_n e]; exact h4 i j hij (by omega)
  · by_cases e : j = K
    · rw [e, mm_ups_s]; omega
    · rw [mm_ups_n e]; have := h5 j (by omega); omega
  · by_cases e : v = c
    · exact ⟨K, by omega, by rw [mm_ups_s]; omega, by rw [mm_ups_s, e]; exact hE.1 c⟩
    · obtain ⟨j, q1, q2, q3⟩ := h6 v g1 (by omega) g3
      exact ⟨j, by omega, by rw [mm_ups_n (by omega)]; exact q2, by rw [mm_ups_n (by omega)]; exact q3⟩
theorem mm_bf_ext (hE : mm_rc E) {k c' : Nat} (h : mm_bf E B K W (2 * W k + 2)) (hk : k < K) (hc : 2 * W k + 2 ≤ c') (hc' : k + 1 < K → c' ≤ 2 * W (k + 1)) : mm_bf E B K W c' := by
  have hh := h
  obtain ⟨h1, h2, h3, h4, h5, h6⟩ := h
  refine ⟨h1, h2, h3, h4, fun j hj => Nat.lt_of_lt_of_le (h5 j hj) hc, fun v => ?_⟩
  induction v using Nat.strongRecOn with
  | ind v ih =>
    intro g1 g2 g3
    by_cases z : v < 2 * W k + 2
    · exact h6 v g1 z g3
    · have ev : v = 2 * (v / 2) + v % 2 := by omega
      have hl : v % 2 < 2 := by omega
      have hu : v / 2 < v := by omega
      have hu1 : W k + 1 ≤ v / 2 := by omega
      generalize v / 2 = u at *
      generalize v % 2 = l at *
      obtain ⟨j, q1, q2, q3⟩ := ih u hu (by omega) (by omega) (by omega)
      have hjk : j ≤ k := by
        rcases Nat.lt_or_ge k j with y | y
        · have t1 := mm_bf_le hh (show k + 1 ≤ j by omega) q1
          have t2 := hc' (by omega)
          omega
        · exact y
      have hW := mm_bf_le hh hjk hk
      have hWj := mm_bf_1 hh q1
      obtain ⟨i, r1, r2, r3⟩ := h6 (2 * W j + l) (by omega) (by omega) (by omega)
      refine ⟨i, r1, by omega, ?_⟩
      rw [ev]
      exact hE.2.2.1 _ _ _ (hE.2.2.2 u (W j) l (by omega) hWj hl q3) r3
theorem mm_bf_skip {c' : Nat} (h : mm_bf E B K W c) (hB : B ≤ c) (hc : c ≤ c') : mm_bf E B K W c' := by
  obtain ⟨h1, h2, h3, h4, h5, h6⟩ := h
  exact ⟨h1, h2, h3, h4, fun j hj => Nat.lt_of_lt_of_le (h5 j hj) hc, fun v g1 g2 g3 => h6 v g1 (by omega) g3⟩
/-! new words, and their number -/
def mm_new (E : Nat → Nat → Prop) (v : Nat) : Prop := 1 ≤ v ∧ ∀ u, 1 ≤ u → u < v → ¬ E v u
theorem mm_new_u (hE : mm_rc E) {u v : Nat} (hu : mm_new E u) (hv : mm_new E v) (h : E u v) : u = v := by
  rcases Nat.lt_trichotomy u v with z | z | z
  · exact absurd (hE.2.1 _ _ h) (hv.2 u hu.1 z)
  · exact z
  · exact absurd h (hu.2 v hv.1 z)
theorem mm_bf_W (hE : mm_rc E) (h : mm_bf E B K W c) {j : Nat} (hj : j < K) (hB : W j < B) : mm_new E (W j) := by
  refine ⟨mm_bf_1 h hj, fun u h1 h2 h3 => ?_⟩
  have hc := h.2.2.2.2.1 j hj
  obtain ⟨i, r1, r2, r3⟩ := h.2.2.2.2.2 u h1 (by omega) (by omega)
  have e : E (W j) (W i) := hE.2.2.1 _ _ _ h3 r3
  rcases Nat.lt_trichotomy i j with z | z | z
  · exact h.2.2.2.1 i j z hj e
  · rw [z] at r2; omega
  · have := h.2.2.1 j i z r1
    omega
theorem mm_bf_N (h : mm_bf E B K W c) (hc : B ≤ c) {v : Nat} (hv : mm_new E v) (hB : v < B) : ∃ j, j < K ∧ W j = v := by
  obtain ⟨j, r1, r2, r3⟩ := h.2.2.2.2.2 v hv.1 (by omega) hB
  refine ⟨j, r1, ?_⟩
  rcases Nat.lt_or_ge (W j) v with z | z
  · exact absurd r3 (hv.2 (W j) (mm_bf_1 h r1) z)
  · omega
theorem mm_bf_c (hE : mm_rc E) (h : mm_bf E B K W c) (hc : B ≤ c) : ∀ v, v ≤ B → ∀ j, j ≤ K → (∀ i, i < j → W i < v) → (j < K → v ≤ W j) → mm_cnt (mm_new E) v = j := by
  intro v
  induction v with
  | zero =>
    intro _ j _ h1 _
    rcases Nat.eq_zero_or_pos j with z | z
    · rw [z]; rfl
    · have := h1 0 z
      omega
  | succ v ih =>
    intro hv j hj h1 h2
    by_cases x : ∃ i, i < j ∧ W i = v
    · obtain ⟨i, hi, ei⟩ := x
      have hij : i = j - 1 := by
        rcases Nat.lt_or_ge i (j - 1) with z | z
        · have t1 := h.2.2.1 i (j - 1) z (by omega)
          have t2 := h1 (j - 1) (by omega)
          omega
        · omega
      have hn : mm_new E v := by rw [← ei]; exact mm_bf_W hE h (by omega) (by omega)
      rw [mm_cnt_t hn, ih (by omega) (j - 1) (by omega) (fun a ha => ?_) (fun _ => ?_)]
      · omega
      · have := h.2.2.1 a i (by omega) (by omega)
        omega
      · rw [← hij, ei]; exact Nat.le_refl v
    · have hn : ¬ mm_new E v := by
        intro hn
        obtain ⟨i, r1, r2⟩ := mm_bf_N h hc hn (by omega)
        rcases Nat.lt_or_ge i j with z | z
        · exact x ⟨i, z, r2⟩
        · have t1 := h2 (by omega)
          have t2 := mm_bf_le h z r1
          omega
      rw [mm_cnt_f hn]
      refine ih (by omega) j hj (fun i hi => ?_) (fun q => by have := h2 q; omega)
      have t := h1 i hi
      have : W i ≠ v := fun e => x ⟨i, hi, e⟩
      omega
theorem mm_bf_cW (hE : mm_rc E) (h : mm_bf E B K W c) (hc : B ≤ c) {j : Nat} (hj : j < K) (hB : W j ≤ B) : mm_cnt (mm_new E) (W j) = j :=
  mm_bf_c hE h hc (W j) hB j (by omega) (fun i hi => h.2.2.1 i j hi hj) (fun _ => Nat.le_refl _)
theorem mm_bf_cK (hE : mm_rc E) (h : mm_bf E B K W c) (hc : B ≤ c) {v : Nat} (hv : ∀ j, j < K → W j < v) (hB : v ≤ B) : mm_cnt (mm_new E) v = K :=
  mm_bf_c hE h hc v hB K (Nat.le_refl K) hv (fun z => absurd z (by omega))
end
/-! ===== sets of states as bits ===== -/
def mm_tg (X : Nat → Nat) (b l : Nat) : Nat → Nat
  | 0 => 0
  | s + 1 => if b.testBit s = true then mm_tg X b l s ||| 2 ^ X (2 * s + l) else mm_tg X b l s
def mm_S (X : Nat → Nat) (n v : Nat) : Nat := if h : v ≤ 1 then 2 ^ n - 1 else mm_tg X (mm_S X n (v / 2)) (v % 2) n
termination_by v
decreasing_by omega
section
variable {X : Nat → Nat}
theorem mm_S_1 (n : Nat) : mm_S X n 1 = 2 ^ n - 1 := by
  rw [mm_S.eq_def X n 1, dif_pos (by omega)]
theorem mm_S_2 {n u l : Nat} (hu : 1 ≤ u) (hl : l < 2) : mm_S X n (2 * u + l) = mm_tg X (mm_S X n u) l n := by
  rw [mm_S.eq_def X n (2 * u + l), dif_neg (by omega), show (2 * u + l) / 2 = u by omega, show (2 * u + l) % 2 = l by omega]
theorem mm_tg_b {b l : Nat} (y : Nat) : ∀ k, (mm_tg X b l k).testBit y = true ↔ ∃ s, s < k ∧ b.testBit s = true ∧ X (2 * s + l) = y := by
  intro k
  induction k with
  | zero =>
    constructor
    · intro h
      rw [show mm_tg X b l 0 = 0 from rfl, Nat.zero_testBit] at h
      exact absurd h (by decide)
    · rintro ⟨s, h, _⟩
      omega
  | succ k ih =>
    show (if b.testBit k = true then mm_tg X b l k ||| 2 ^ X (2 * k + l) else mm_tg X b l k).testBit y = true ↔ _
    by_cases c : b.testBit k = true
    · rw [if_pos c, Nat.testBit_or, Bool.or_eq_true, ih, Nat.testBit_two_pow, decide_eq_true_eq]
      constructor
      · rintro (⟨s, h1, h2, h3⟩ | h)
        · exact ⟨s, by omega, h2, h3⟩
        · exact ⟨k, by omega, c, h⟩
      · rintro ⟨s, h1, h2, h3⟩
        by_cases e : s = k
        · exact Or.inr (by rw [← e]; exact h3)
        · exact Or.inl ⟨s, by omega, h2, h3⟩
    · rw [if_neg c, ih]
      constructor
      · rintro ⟨s, h1, h2, h3⟩
        exact ⟨s, by omega, h2, h3⟩
      · rintro ⟨s, h1, h2, h3⟩
        by_cases e : s = k
        · rw [e] at h2; exact absurd h2 c
        · exact ⟨s, by omega, h2, h3⟩
theorem mm_tg_lt {b l : Nat} : ∀ k, (∀ s, s < k → X (2 * s + l) < 6) → mm_tg X b l k < 64 := by
  intro k
  induction k with
  | zero => intro _; exact (by decide : (0 : Nat) < 64)
  | succ k ih =>
    intro h
    have t := ih (fun s hs => h s (by omega))
    show (if b.testBit k = true then mm_tg X b l k ||| 2 ^ X (2 * k + l) else mm_tg X b l k) < 64
    by_cases c : b.testBit k = true
    · rw [if_pos c]
      exact Nat.or_lt_two_pow (n := 6) t (Nat.pow_lt_pow_right (by omega) (h k (by omega)))
    · rw [if_neg c]; exact t
theorem mm_pow6 : ∀ n, n < 7 → 2 ^ n - 1 < 64 := by decide
theorem mm_S_lt {N : Nat → Nat} (h : mm_cl N X) (v : Nat) : mm_S X (N 0) v < 64 := by
  have h6 := (h.1 0 (by omega)).2
  rw [mm_S.eq_def X (N 0) v]
  by_cases c : v ≤ 1
  · rw [dif_pos c]; exact mm_pow6 (N 0) (by omega)
  · rw [dif_neg c]
    exact mm_tg_lt _ (fun s hs => mm_X6 h (mm_th0 h6 hs) (by omega))
theorem mm_S_b {N : Nat → Nat} (h : mm_cl N X) {v : Nat} (hv : 1 ≤ v) : ∀ y, (mm_S X (N 0) v).testBit y = true ↔ ∃ x, x < N 0 ∧ mm_run X x v = y := by
  have h6 := (h.1 0 (by omega)).2
  induction v using Nat.strongRecOn with
  | ind v ih =>
    intro y
    by_cases c : v = 1
    · rw [c, mm_S_1, Nat.testBit_two_pow_sub_one, decide_eq_true_eq]
      constructor
      · exact fun g => ⟨y, g, mm_run_1 y⟩
      · rintro ⟨x, g1, g2⟩
        rw [mm_run_1] at g2
        omega
    · have ev : v = 2 * (v / 2) + v % 2 := by omega
      have hl : v % 2 < 2 := by omega
      have hu : v / 2 < v := by omega
      have hu1 : 1 ≤ v / 2 := by omega
      generalize v / 2 = u at *
      generalize v % 2 = l at *
      rw [ev, mm_S_2 hu1 hl, mm_tg_b]
      constructor
      · rintro ⟨s, g1, g2, g3⟩
        obtain ⟨x, q1, q2⟩ := (ih u hu hu1 s).mp g2
        refine ⟨x, q1, ?_⟩
        rw [mm_run_2 hu1 hl, q2]
        unfold mm_st
        omega
      · rintro ⟨x, q1, q2⟩
        rw [mm_run_2 hu1 hl] at q2
        have t := mm_run0 h q1 u
        refine ⟨mm_run X x u, t, (ih u hu hu1 _).mpr ⟨x, q1, rfl⟩, ?_⟩
        unfold mm_st at q2
        omega
/-- all states together -/
def mm_all (X : Nat → Nat) (n v : Nat) : Prop := ∀ x, x < n → mm_run X x v = mm_run X 0 v
theorem mm_bit1 : ∀ b, b < 64 → ((nI b &&& (nI b - 1)) = 0 ↔ ∀ i, i < 6 → ∀ j, j < 6 → b.testBit i = true → b.testBit j = true → i = j) := by decide +kernel
theorem mm_all_S {N : Nat → Nat} (h : mm_cl N X) {v : Nat} (hv : 1 ≤ v) : ((nI (mm_S X (N 0) v) &&& (nI (mm_S X (N 0) v) - 1)) = 0 ↔ mm_all X (N 0) v) := by
  have h0 := h.1 0 (by omega)
  rw [mm_bit1 _ (mm_S_lt h v)]
  constructor
  · intro g x hx
    have t1 := mm_run0 h hx v
    have t2 := mm_run0 h (x := 0) (by omega) v
    exact g _ (by omega) _ (by omega) ((mm_S_b h hv _).mpr ⟨x, hx, rfl⟩) ((mm_S_b h hv _).mpr ⟨0, by omega, rfl⟩)
  · intro g i _ j _ bi bj
    obtain ⟨x, q1, q2⟩ := (mm_S_b h hv i).mp bi
    obtain ⟨y, r1, r2⟩ := (mm_S_b h hv j).mp bj
    rw [← q2, ← r2, g x q1, g y r1]
end
end
section
/-! ===== small methods ===== -/
theorem mm_sl : ∀ n, n < 32 → ((nI n &&& 31).toBitVec.smod 32).toNat = n := by decide +kernel
theorem mm_ix (p l : Nat) : 2 * nI p + nI l = nI (2 * p + l) := by
  rw [show (2 : Int32) = nI 2 from rfl, pk_mul, nI_add]
theorem mm_ix12 (p l : Nat) : 12 * nI p + nI l = nI (12 * p + l) := by
  rw [show (12 : Int32) = nI 12 from rfl, pk_mul, nI_add]
theorem mm_ix6 (p l : Nat) : 6 * nI p + nI l = nI (6 * p + l) := by
  rw [show (6 : Int32) = nI 6 from rfl, pk_mul, nI_add]
theorem mm_d6 {p : Nat} (h : p < 2 ^ 31) : nI p / 6 = nI (p / 6) := pk_div (d := 6) h (by omega) (by omega)
theorem mm_r6 {p : Nat} (h : p < 2 ^ 31) : nI p - nI p / 6 * 6 = nI (p % 6) := pk_rem (d := 6) h (by omega) (by omega)
theorem mm_d12 {p : Nat} (h : p < 2 ^ 31) : nI p / 12 = nI (p / 12) := pk_div (d := 12) h (by omega) (by omega)
theorem mm_r12 {p : Nat} (h : p < 2 ^ 31) : nI p - nI p / 12 * 12 = nI (p % 12) := pk_rem (d := 12) h (by omega) (by omega)
theorem mm_sub1 (i : Nat) : nI i - 1 = nI i + (-1) := Int32.sub_eq_add_neg _ _
theorem mm_bitat {v i : Nat} (hv : v < 2 ^ 31) (hi : i < 32) : (nI v >>> (nI i &&& 31)) &&& 1 = nI (v / 2 ^ i % 2) := by
  have h : v / 2 ^ i ≤ v := Nat.div_le_self _ _
  rw [pk_shrN hv _ i (mm_sl i hi), pk_andN (by omega) 1 (by decide)]
theorem mm_isM {post : Int32 → Prop} {m : Nat} (hm : m < 2) (h : post 1) : wpX_isMachine post () (nI m) :=
  pk_eq m 0 (fun _ => h) (fun z => pk_eq m 1 (fun _ => h) (fun y => absurd hm (by omega)))
theorem mm_isMx {post : Int32 → Prop} {x : Int32} (h0 : post 0) (h1 : ∀ m, m < 2 → x = nI m → post 1) : wpX_isMachine post () x :=
  br_c (fun e => h1 0 (by omega) e) (fun _ => br_c (fun e => h1 1 (by omega) e) (fun _ => h0))
section
variable {N X : Nat → Nat} {c f : Int32} {a1 a2 a3 a4 a5 a6 a7 a8 : Nat → Int32}
theorem mm_isThere {post : Int32 → Prop} {p : Nat} (ok : mm_ok N X a1 a2) (hp : p < 12) (h0 : ¬ mm_th N p → post 0) (h1 : mm_th N p → post 1) : wpX_isThere post (c, f, a1, a2, a3, a4, a5, a6, a7, a8) (nI p) := by
  obtain ⟨g1, g2, g3⟩ := ok.1 (p / 6) (by omega)
  refine ⟨by decide, by decide, ?_⟩
  rw [mm_r6 (by omega), mm_d6 (by omega), nI_clamp (by omega), g1]
  exact ⟨pk_in (p / 6) 2 (by omega), pk_le (N (p / 6)) (p % 6) (fun z => h0 (fun t => absurd t.2 (by omega))) (fun z => h1 ⟨hp, z⟩)⟩
theorem mm_after {post : Int32 → Prop} {p l : Nat} (ok : mm_ok N X a1 a2) (hp : mm_th N p) (hl : l < 2) (h : post (nI (mm_st X p l))) : wpX_after post (c, f, a1, a2, a3, a4, a5, a6, a7, a8) (nI p) (nI l) := by
  have hp1 := hp.1
  have g := (ok.2 p hp l hl).1
  refine ⟨by decide, ?_⟩
  rw [mm_d6 (by omega), mm_ix, nI_clamp (by omega), g, mm_ix6]
  exact ⟨pk_in (2 * p + l) 24 (by omega), h⟩
theorem mm_states {post : Int32 → Prop} {m : Nat} (ok : mm_ok N X a1 a2) (hm : m < 2) (h : post (nI (N m))) : wpX_states post (c, f, a1, a2, a3, a4, a5, a6, a7, a8) (nI m) := by
  unfold wpX_states
  refine mm_isM hm (br_f (by decide) ?_)
  rw [nI_clamp (by omega), (ok.1 m hm).1]
  exact ⟨pk_in m 2 hm, h⟩
theorem mm_placeOf {post : Int32 → Prop} {m s : Nat} (ok : mm_ok N X a1 a2) (hm : m < 2) (hs : s < 8) (h0 : N m ≤ s → post (-1)) (h1 : s < N m → post (nI (6 * m + s))) : wpX_placeOf post (c, f, a1, a2, a3, a4, a5, a6, a7, a8) (nI (8 * m + s)) := by
  have e1 : nI (8 * m + s) >>> ((3 : Int32) &&& 31) = nI m := by
    rw [pk_shrN (by omega) _ 3 (by decide), show (8 * m + s) / 2 ^ 3 = m by omega]
  have e2 : nI (8 * m + s) &&& 7 = nI s := by
    rw [pk_andN (by omega) 3 (by decide), show (8 * m + s) % 2 ^ 3 = s by omega]
  obtain ⟨g1, g2, g3⟩ := ok.1 m hm
  refine nm_r e1 (nm_r e2 (mm_isM hm (br_f (by decide) ?_)))
  rw [nI_clamp (by omega), g1, mm_ix6]
  exact ⟨pk_in m 2 hm, pk_le (N m) s h0 h1⟩
theorem mm_letters {post : Int32 → Prop} {v j : Nat} (h1 : 2 ^ j ≤ v) (h2 : v < 2 ^ (j + 1)) (hj : j ≤ 11) (h : post (nI j)) : wpX_lettersOf post () (nI v) := by
  have hp : ∀ i, i ≤ 11 → 2 * 2 ^ i ≤ 4096 := by decide
  have sh : ∀ i, i ≤ 11 → (2 : Int32) <<< (nI i &&& 31) = nI (2 * 2 ^ i) := fun i hi => pk_shlN (n := 2) (nI i &&& 31) i (mm_sl i (by omega)) (by have := hp i hi; omega)
  rw [Nat.pow_succ] at h2
  have hp' := hp j hj
  refine pk_loop (σ := Unit) (fun n i _ => wX_lettersOf_2 post (nI v) n (nI i)) (fun _ _ => True) j 0 () (by omega) trivial (fun n _ _ => pk_le 11 j (fun _ => h) (fun z => br_t ?_ h)) (fun n i _ hi _ hw => pk_le 11 i (fun z => absurd z (by omega)) (fun _ => br_f ?_ (nm_r (nI_1 i) (hw () trivial))))
  · rw [sh j hj]
    exact nI_lt (by omega) (by omega)
  · rw [sh i (by omega)]
    have := hp i (by omega)
    have t : 2 * 2 ^ i ≤ 2 ^ j := by
      have := Nat.pow_le_pow_right (n := 2) (by omega) (show i + 1 ≤ j by omega)
      rw [Nat.pow_succ] at this
      omega
    exact nI_nlt (by omega) (by omega)
theorem mm_pre {v j i : Nat} (h1 : 2 ^ j ≤ v) (hi : i + 1 ≤ j) : 1 ≤ v / 2 ^ (i + 1) ∧ v / 2 ^ i = 2 * (v / 2 ^ (i + 1)) + v / 2 ^ i % 2 := by
  constructor
  · have := Nat.pow_le_pow_right (n := 2) (by omega) hi
    exact (Nat.one_le_div_iff (Nat.pow_pos (by omega))).mpr (by omega)
  · have e : v / 2 ^ (i + 1) = v / 2 ^ i / 2 := by rw [Nat.pow_succ, Nat.div_div_eq_div_mul]
    rw [e]
    omega
theorem mm_run_b {post : Int32 → Prop} {p v j : Nat} (ok : mm_ok N X a1 a2) (hp : mm_th N p) (hj : 2 ^ j ≤ v) (hj11 : j ≤ 11) (hv : v ≤ 4095) (h : post (nI (mm_run X p v % 6))) : ∀ i, i ≤ j → wX_run_39 post (nI v) c f a1 a2 a3 a4 a5 a6 a7 a8 (i + 1) (nI (mm_run X p (v / 2 ^ i))) (nI i + (-1)) := by
  intro i
  induction i with
  | zero =>
    intro _
    rw [Nat.pow_zero, Nat.div_one]
    have t := (mm_run_th (mm_ok_cl ok) hp v).1.1
    refine br_t (by decide) ⟨by decide, ?_⟩
    rw [mm_r6 (by omega)]
    exact h
  | succ i ih =>
    intro hi
    rw [pk_m1]
    obtain ⟨q1, q2⟩ := mm_pre hj hi
    refine br_f (nI_pos (by omega)) ?_
    rw [mm_bitat (by omega) (by omega)]
    refine mm_after ok (mm_run_th (mm_ok_cl ok) hp _).1 (by omega) (nm_e ?_)
    rw [← mm_run_2 q1 (by omega), ← q2]
    exact ih (by omega)
theorem mm_runW {post : Int32 → Prop} {m s v : Nat} (ok : mm_ok N X a1 a2) (hm : m < 2) (hs : s < N m) (hv1 : 1 ≤ v) (hv : v ≤ 4095) (h : post (nI (mm_run X (6 * m + s) v % 6))) : wpX_run post (c, f, a1, a2, a3, a4, a5, a6, a7, a8) (nI (8 * m + s)) (nI v) := by
  have h6 := (ok.1 m hm).2.2
  obtain ⟨j, j1, j2⟩ := mm_log hv1
  have hj : j < 12 := mm_plt j1 (show v < 2 ^ 12 by omega)
  have hp : mm_th N (6 * m + s) := ⟨by omega, by rw [show (6 * m + s) % 6 = s by omega, show (6 * m + s) / 6 = m by omega]; exact hs⟩
  unfold wpX_run
  refine mm_placeOf ok hm (by omega) (fun z => absurd z (by omega)) (fun _ => br_t (nI_pos' (by omega)) (br_f (nI_nlt (b := 1) hv1 (by omega)) (br_t (nI_le (b := 4095) hv (by omega)) (mm_letters j1 j2 (by omega) (nm_r (mm_sub1 j) ⟨j + 1, ?_⟩)))))
  have := mm_run_b (c := c) (f := f) (a3 := a3) (a4 := a4) (a5 := a5) (a6 := a6) (a7 := a7) (a8 := a8) ok hp j1 (by omega) hv h j (Nat.le_refl j)
  rw [show v / 2 ^ j = 1 from Nat.div_eq_of_lt_le (by omega) (by rw [Nat.pow_succ] at j2; omega), mm_run_1] at this
  exact this
theorem mm_runN {post : Int32 → Prop} {m s : Nat} {x : Int32} (ok : mm_ok N X a1 a2) (hm : m < 2) (hs : N m ≤ s) (hs8 : s < 8) (h : post (-1)) : wpX_run post (c, f, a1, a2, a3, a4, a5, a6, a7, a8) (nI (8 * m + s)) x := by
  unfold wpX_run
  exact mm_placeOf ok hm hs8 (fun _ => br_f (by decide) h) (fun z => absurd z (by omega))
theorem mm_runB {post : Int32 → Prop} (ok : mm_ok N X a1 a2) (h : post (-2)) : wpX_run post (c, f, a1, a2, a3, a4, a5, a6, a7, a8) 0 4096 := by
  have g := ok.1 0 (by omega)
  unfold wpX_run
  exact mm_placeOf (m := 0) (s := 0) ok (by omega) (by omega) (fun z => absurd z (by omega)) (fun _ => br_t (by decide) (br_f (by decide) (br_f (by decide) h)))
theorem mm_rspB {post : Int32 → Prop} (ok : mm_ok N X a1 a2) (h : post (-2)) : wpX_response post (c, f, a1, a2, a3, a4, a5, a6, a7, a8) 0 0 := by
  have g := ok.1 0 (by omega)
  unfold wpX_response
  exact mm_placeOf (m := 0) (s := 0) ok (by omega) (by omega) (fun z => absurd z (by omega)) (fun _ => br_t (by decide) (br_t (by decide) h))
theorem mm_rsp_b {post : Int32 → Prop} {p v j : Nat} (ok : mm_ok N X a1 a2) (hp : mm_th N p) (hj : 2 ^ j ≤ v) (hj11 : j ≤ 11) (hv : v ≤ 4095) (h : post (mm_rsp X a3 p v)) : ∀ i, i ≤ j → wX_response_42 post (nI v) c f a1 a2 a3 a4 a5 a6 a7 a8 (i + 1) (nI (mm_run X p (v / 2 ^ i))) (mm_rsp X a3 p (v / 2 ^ i)) (nI i + (-1)) := by
  intro i
  induction i with
  | zero =>
    intro _
    rw [Nat.pow_zero, Nat.div_one]
    exact br_t (by decide) h
  | succ i ih =>
    intro hi
    rw [pk_m1]
    obtain ⟨q1, q2⟩ := mm_pre hj hi
    have t := (mm_run_th (mm_ok_cl ok) hp (v / 2 ^ (i + 1))).1
    have t1 := t.1
    refine br_f (nI_pos (by omega)) (nm_r (mm_bitat (by omega) (by omega)) ?_)
    rw [mm_ix, nI_clamp (by omega)]
    refine ⟨vp_in_nI (by omega) (by omega), nm_e (mm_after ok t (by omega) (nm_e ?_))⟩
    rw [← mm_run_2 q1 (by omega), ← mm_rsp_2 q1 (by omega), ← q2]
    exact ih (by omega)
theorem mm_rspW {post : Int32 → Prop} {m s v : Nat} (ok : mm_ok N X a1 a2) (hm : m < 2) (hs : s < N m) (hv1 : 1 ≤ v) (hv : v ≤ 4095) (h : post (mm_rsp X a3 (6 * m + s) v)) : wpX_response post (c, f, a1, a2, a3, a4, a5, a6, a7, a8) (nI (8 * m + s)) (nI v) := by
  have h6 := (ok.1 m hm).2.2
  obtain ⟨j, j1, j2⟩ := mm_log hv1
  have hj : j < 12 := mm_plt j1 (show v < 2 ^ 12 by omega)
  have hp : mm_th N (6 * m + s) := ⟨by omega, by rw [show (6 * m + s) % 6 = s by omega, show (6 * m + s) / 6 = m by omega]; exact hs⟩
  unfold wpX_response
  refine mm_placeOf ok hm (by omega) (fun z => absurd z (by omega)) (fun _ => br_t (nI_pos' (by omega)) (br_f (nI_nlt (b := 1) hv1 (by omega)) (br_t (nI_le (b := 4095) hv (by omega)) (mm_letters j1 j2 (by omega) (nm_r (mm_sub1 j) ⟨j + 1, ?_⟩)))))
  have := mm_rsp_b (c := c) (f := f) (a4 := a4) (a5 := a5) (a6 := a6) (a7 := a7) (a8 := a8) ok hp j1 (by omega) hv h j (Nat.le_refl j)
  rw [show v / 2 ^ j = 1 from Nat.div_eq_of_lt_le (by omega) (by rw [Nat.pow_succ] at j2; omega), mm_run_1, mm_rsp_1] at this
  exact this
theorem mm_goes_s {post : Int32 → Prop} {p q l L n : Nat} (ok : mm_ok N X a1 a2) (hp : mm_th N p) (hq : mm_th N q) (hl : l < 2) (h1 : a4 (12 * mm_st X p l + mm_st X q l) = nI L → post 1) (h2 : ¬ a4 (12 * mm_st X p l + mm_st X q l) = nI L → wX_goesTo_3 post (nI p) (nI q) (nI L) c f a1 a2 a3 a4 a5 a6 a7 a8 n (nI (l + 1))) : wX_goesTo_3 post (nI p) (nI q) (nI L) c f a1 a2 a3 a4 a5 a6 a7 a8 (n + 1) (nI l) := by
  have t1 := (mm_st_th (mm_ok_cl ok) hp hl).1.1
  have t2 := (mm_st_th (mm_ok_cl ok) hq hl).1.1
  refine pk_le 2 l (fun z => absurd z (by omega)) (fun _ => mm_after ok hp hl (mm_after ok hq hl ?_))
  rw [mm_ix12, nI_clamp (by omega)]
  exact ⟨vp_in_nI (by omega) (by omega), br_c h1 (fun e => nm_r (nI_1 l) (h2 e))⟩
theorem mm_goesTo {post : Int32 → Prop} {p q L : Nat} (ok : mm_ok N X a1 a2) (hp : mm_th N p) (hq : mm_th N q) (h1 : ∀ l, l < 2 → a4 (12 * mm_st X p l + mm_st X q l) = nI L → post 1) (h0 : (∀ l, l < 2 → ¬ a4 (12 * mm_st X p l + mm_st X q l) = nI L) → post 0) : wpX_goesTo post (c, f, a1, a2, a3, a4, a5, a6, a7, a8) (nI p) (nI q) (nI L) := by
  refine ⟨3, mm_goes_s (l := 0) ok hp hq (by omega) (h1 0 (by omega)) (fun e0 => mm_goes_s (l := 1) ok hp hq (by omega) (h1 1 (by omega)) (fun e1 => br_t (by decide) (h0 (fun l hl => ?_))))⟩
  rcases (show l = 0 ∨ l = 1 by omega) with e | e
  · rw [e]; exact e0
  · rw [e]; exact e1
end
end
section
/-! ===== refresh: the table of differences ===== -/
def mm_D (N X : Nat → Nat) (A : Nat → Int32) (L p q d : Nat) : Prop := (¬ (mm_th N p ∧ mm_th N q) ∧ d = 0) ∨ (mm_th N p ∧ mm_th N q ∧ ((d = 0 ∧ mm_eq X A L p q) ∨ (∃ e, d = e + 1 ∧ e < L ∧ mm_eq X A e p q ∧ ¬ mm_eq X A (e + 1) p q)))
def mm_T (N X : Nat → Nat) (A : Nat → Int32) (L k : Nat) (x : Int32) : Prop := ∃ d, x = nI d ∧ mm_D N X A L (k / 12) (k % 12) d
def mm_tab (N X : Nat → Nat) (A a4 : Nat → Int32) : Prop := ∀ k, k < 144 → mm_T N X A 11 k (a4 k)
theorem mm_x2 (a : Nat) : 2 * nI a = nI (2 * a) := by
  rw [show (2 : Int32) = nI 2 from rfl, pk_mul]
section
variable {N X : Nat → Nat} {A : Nat → Int32}
theorem mm_T_lt {L k d : Nat} (h : mm_D N X A L (k / 12) (k % 12) d) : d ≤ L := by
  rcases h with h | ⟨_, _, h | ⟨e, h1, h2, _⟩⟩
  · omega
  · omega
  · omega
theorem mm_T_eq {L L' k : Nat} {x : Int32} (h1 : 1 ≤ L) (hL : L ≤ L') (hb : L' < 2 ^ 31) (h : mm_T N X A L' k x) (tp : mm_th N (k / 12)) (tq : mm_th N (k % 12)) (hx : x = nI L) : ¬ mm_eq X A L (k / 12) (k % 12) := by
  obtain ⟨d, e, hd⟩ := h
  have hl := mm_T_lt hd
  have ed : d = L := (nI_eq (by omega) (by omega)).mp (e.symm.trans hx)
  rcases hd with h | ⟨_, _, h | ⟨i, q1, q2, q3, q4⟩⟩
  · exact absurd ⟨tp, tq⟩ h.1
  · omega
  · rw [← ed, q1]; exact q4
theorem mm_T_ne {L L' k : Nat} {x : Int32} (h1 : 1 ≤ L) (hL : L ≤ L') (h : mm_T N X A L' k x) (tp : mm_th N (k / 12)) (tq : mm_th N (k % 12)) (hx : ¬ x = nI L) (hq : mm_eq X A (L - 1) (k / 12) (k % 12)) : mm_eq X A L (k / 12) (k % 12) := by
  obtain ⟨d, e, hd⟩ := h
  have ed : d ≠ L := fun z => hx (by rw [e, z])
  rcases hd with h | ⟨_, _, h | ⟨i, q1, q2, q3, q4⟩⟩
  · exact absurd ⟨tp, tq⟩ h.1
  · exact mm_eq_le hL h.2
  · rcases Nat.lt_or_ge i L with z | z
    · exact absurd (mm_eq_le (by omega) hq) q4
    · exact mm_eq_le z q3
theorem mm_T_up {L k : Nat} {x : Int32} (h : mm_T N X A L k x) (hx : ¬ x = 0) : mm_T N X A (L + 1) k x := by
  obtain ⟨d, e, hd⟩ := h
  refine ⟨d, e, ?_⟩
  rcases hd with h | ⟨t1, t2, h | ⟨i, q1, q2, q3, q4⟩⟩
  · exact absurd (by rw [e, h.2]; rfl) hx
  · exact absurd (by rw [e, h.1]; rfl) hx
  · exact Or.inr ⟨t1, t2, Or.inr ⟨i, q1, by omega, q3, q4⟩⟩
theorem mm_T_n {L k : Nat} {x : Int32} (hx : x = 0) (h : ¬ (mm_th N (k / 12) ∧ mm_th N (k % 12))) : mm_T N X A L k x := ⟨0, hx, Or.inl ⟨h, rfl⟩⟩
theorem mm_T_0 {L k : Nat} {x : Int32} (hb : L < 2 ^ 31) (h : mm_T N X A L k x) (hx : x = 0) (tp : mm_th N (k / 12)) (tq : mm_th N (k % 12)) : mm_eq X A L (k / 12) (k % 12) := by
  obtain ⟨d, e, hd⟩ := h
  have hl := mm_T_lt hd
  have ed : d = 0 := (nI_eq (b := 0) (by omega) (by omega)).mp (e.symm.trans hx)
  rcases hd with h | ⟨_, _, h | ⟨i, q1, q2, q3, q4⟩⟩
  · exact absurd ⟨tp, tq⟩ h.1
  · exact h.2
  · omega
theorem mm_tabK {B : Nat → Int32} {P : Nat → Int32 → Prop} {Q : Nat → Int32 → Prop} {k : Nat} {y : Int32} (h : ∀ j, j < 144 → (j < k → P j (B j)) ∧ (k ≤ j → Q j (B j))) (hy : P k y) : ∀ j, j < 144 → (j < k + 1 → P j (upd B k y j)) ∧ (k + 1 ≤ j → Q j (upd B k y j)) := by
  intro j hj
  by_cases e : j = k
  · rw [e, pk_us]
    exact ⟨fun _ => hy, fun z => absurd z (by omega)⟩
  · rw [pk_un e]
    exact ⟨fun z => (h j hj).1 (by omega), fun z => (h j hj).2 (by omega)⟩
theorem mm_tabS {B : Nat → Int32} {P : Nat → Int32 → Prop} {Q : Nat → Int32 → Prop} {k : Nat} (h : ∀ j, j < 144 → (j < k → P j (B j)) ∧ (k ≤ j → Q j (B j))) (hy : P k (B k)) : ∀ j, j < 144 → (j < k + 1 → P j (B j)) ∧ (k + 1 ≤ j → Q j (B j)) := by
  intro j hj
  by_cases e : j = k
  · rw [e]
    exact ⟨fun _ => hy, fun z => absurd z (by omega)⟩
  · exact ⟨fun z => (h j hj).1 (by omega), fun z => (h j hj).2 (by omega)⟩
end
section
variable {N X : Nat → Nat} {c f : Int32} {a1 a2 a3 a4 a5 a6 a7 a8 : Nat → Int32}
theorem mm_ref129 {post : St1 → Prop} {J : Int32 → (Nat → Int32) → (Nat → Int32) → (Nat → Int32) → (Nat → Int32) → (Nat → Int32) → (Nat → Int32) → (Nat → Int32) → (Nat → Int32) → Prop} {L : Nat} (ok : mm_ok N X a1 a2) (hL : 1 ≤ L) (hL2 : L ≤ 10) (ha : ∀ k, k < 144 → mm_T N X a3 L k (a4 k)) (h : ∀ b, (∀ k, k < 144 → mm_T N X a3 (L + 1) k (b k)) → J (nI (L + 2)) a1 a2 a3 b a5 a6 a7 a8) : ∃ fu, wX_refresh_129 post J (nI (L + 1)) c f fu 0 a1 a2 a3 a4 a5 a6 a7 a8 := by
  have cl := mm_ok_cl ok
  refine pk_loop (fun n k s => wX_refresh_129 post J (nI (L + 1)) c f n (nI k) a1 a2 a3 s a5 a6 a7 a8) (fun k s => ∀ j, j < 144 → (j < k → mm_T N X a3 (L + 1) j (s j)) ∧ (k ≤ j → mm_T N X a3 L j (s j))) 144 0 a4 (by omega) (fun j hj => ⟨fun z => absurd z (by omega), fun _ => ha j hj⟩) ?_ ?_
  · intro n s hs
    exact pk_le 144 144 (fun _ => nm_r (nI_1 (L + 1)) (h s (fun k hk => (hs k hk).1 hk))) (fun z => absurd z (by omega))
  · intro n k s hk hs hw
    refine pk_le 144 k (fun z => absurd z (by omega)) (fun _ => ⟨pk_in k 144 hk, ?_⟩)
    have hT := (hs k hk).2 (Nat.le_refl k)
    rw [nI_clamp (show k < 2 ^ 31 by omega), mm_r12 (by omega), mm_d12 (by omega), nI_pred]
    refine br_c (fun e0 => ⟨by decide, ?_⟩) (fun e0 => nm_r (nI_1 k) (hw s (mm_tabS hs (mm_T_up hT e0))))
    refine mm_isThere ok (by omega) (fun nt => br_t rfl (nm_r (nI_1 k) (hw s (mm_tabS hs (mm_T_n e0 (fun t => nt t.1)))))) (fun t1 => br_f (by decide) ⟨by decide, ?_⟩)
    refine mm_isThere ok (by omega) (fun nt => br_t rfl (nm_r (nI_1 k) (hw s (mm_tabS hs (mm_T_n e0 (fun t => nt t.2)))))) (fun t2 => br_f (by decide) ⟨by decide, by decide, ?_⟩)
    have q := mm_T_0 (by omega) hT e0 t1 t2
    have ent : ∀ l, l < 2 → ∃ L', L ≤ L' ∧ L' < 2 ^ 31 ∧ mm_T N X a3 L' (12 * mm_st X (k / 12) l + mm_st X (k % 12) l) (s (12 * mm_st X (k / 12) l + mm_st X (k % 12) l)) := by
      intro l hl
      have u1 := (mm_st_th cl t1 hl).1.1
      have u2 := (mm_st_th cl t2 hl).1.1
      have u := hs (12 * mm_st X (k / 12) l + mm_st X (k % 12) l) (by omega)
      rcases Nat.lt_or_ge (12 * mm_st X (k / 12) l + mm_st X (k % 12) l) k with z | z
      · exact ⟨L + 1, by omega, by omega, u.1 z⟩
      · exact ⟨L, by omega, by omega, u.2 z⟩
    have dv : ∀ l, l < 2 → (12 * mm_st X (k / 12) l + mm_st X (k % 12) l) / 12 = mm_st X (k / 12) l ∧ (12 * mm_st X (k / 12) l + mm_st X (k % 12) l) % 12 = mm_st X (k % 12) l := by
      intro l hl
      have u2 := (mm_st_th cl t2 hl).1.1
      omega
    refine mm_goesTo ok t1 t2 (fun l hl el => br_f (by decide) ⟨pk_in k 144 hk, nm_e (nm_r (nI_1 k) (hw _ (mm_tabK hs ?_)))⟩) (fun hno => br_t rfl ⟨pk_in k 144 hk, nm_e (nm_r (nI_1 k) (hw _ (mm_tabK hs ?_)))⟩)
    · refine ⟨L + 1, rfl, Or.inr ⟨t1, t2, Or.inr ⟨L, rfl, by omega, q, fun z => ?_⟩⟩⟩
      obtain ⟨L', l1, l2, l3⟩ := ent l hl
      have := mm_T_eq hL l1 l2 l3 (by rw [(dv l hl).1]; exact (mm_st_th cl t1 hl).1) (by rw [(dv l hl).2]; exact (mm_st_th cl t2 hl).1) el
      rw [(dv l hl).1, (dv l hl).2] at this
      exact this (mm_eq_n z hl)
    · refine ⟨0, rfl, Or.inr ⟨t1, t2, Or.inl ⟨rfl, ?_⟩⟩⟩
      obtain ⟨M, rfl⟩ : ∃ M, L = M + 1 := ⟨L - 1, by omega⟩
      have go : ∀ l, l < 2 → mm_eq X a3 (M + 1) (mm_st X (k / 12) l) (mm_st X (k % 12) l) := by
        intro l hl
        obtain ⟨L', l1, l2, l3⟩ := ent l hl
        have := mm_T_ne hL l1 l3 (by rw [(dv l hl).1]; exact (mm_st_th cl t1 hl).1) (by rw [(dv l hl).2]; exact (mm_st_th cl t2 hl).1) (hno l hl) (by rw [(dv l hl).1, (dv l hl).2]; exact mm_eq_n q hl)
        rw [(dv l hl).1, (dv l hl).2] at this
        exact this
      exact ⟨q.1, q.2.1, go 0 (by omega), go 1 (by omega)⟩
theorem mm_ref121 {post : St1 → Prop} (ok : mm_ok N X a1 a2) (ha : ∀ k, k < 144 → mm_T N X a3 1 k (a4 k)) (h : ∀ b, mm_tab N X a3 b → post (c, f, a1, a2, a3, b, a5, a6, a7, a8)) : ∃ fu, wX_refresh_121 post c f fu 2 a1 a2 a3 a4 a5 a6 a7 a8 := by
  refine pk_loop (fun n i s => wX_refresh_121 post c f n (nI i) a1 a2 a3 s a5 a6 a7 a8) (fun i s => 2 ≤ i ∧ ∀ k, k < 144 → mm_T N X a3 (i - 1) k (s k)) 12 2 a4 (by omega) ⟨by omega, ha⟩ ?_ ?_
  · intro n s hs
    exact pk_lt 11 12 (fun _ => h s hs.2) (fun z => absurd z (by omega))
  · intro n i s hi hs hw
    obtain ⟨L, rfl⟩ : ∃ L, i = L + 1 := ⟨i - 1, by omega⟩
    have hs1 := hs.1
    exact pk_lt 11 (L + 1) (fun z => absurd z (by omega)) (fun _ => mm_ref129 ok (by omega) (by omega) hs.2 (fun b hb => hw b ⟨by omega, hb⟩))
theorem mm_r79 {post : St1 → Prop} {J : Int32 → (Nat → Int32) → (Nat → Int32) → (Nat → Int32) → (Nat → Int32) → (Nat → Int32) → (Nat → Int32) → (Nat → Int32) → (Nat → Int32) → Prop} {k : Nat} {z : Int32} (ok : mm_ok N X a1 a2) (hk : k < 144) (h0 : (z = 0 ∨ ¬ (mm_th N (k / 12) ∧ mm_th N (k % 12))) → J (nI (k + 1)) a1 a2 a3 (upd a4 k 0) a5 a6 a7 a8) (h1 : ¬ z = 0 → mm_th N (k / 12) → mm_th N (k % 12) → J (nI (k + 1)) a1 a2 a3 (upd a4 k 1) a5 a6 a7 a8) : wX_refresh_79 post J (nI k) (nI (k / 12)) (nI (k % 12)) z c f a1 a2 a3 a4 a5 a6 a7 a8 := by
  unfold wX_refresh_79
  rw [nI_clamp (show k < 2 ^ 31 by omega)]
  refine br_c (fun e => ⟨pk_in k 144 hk, nm_e (nm_r (nI_1 k) (h0 (Or.inl e)))⟩) (fun e => ?_)
  refine mm_isThere ok (by omega) (fun nt => br_t rfl ⟨pk_in k 144 hk, nm_e (nm_r (nI_1 k) (h0 (Or.inr (fun t => nt t.1))))⟩) (fun t1 => br_f (by decide) ?_)
  exact mm_isThere ok (by omega) (fun nt => br_t rfl ⟨pk_in k 144 hk, nm_e (nm_r (nI_1 k) (h0 (Or.inr (fun t => nt t.2))))⟩) (fun t2 => br_f (by decide) ⟨pk_in k 144 hk, nm_e (nm_r (nI_1 k) (h1 e t1 t2))⟩)
theorem mm_ref15 {post : St1 → Prop} (ok : mm_ok N X a1 a2) (h : ∀ b, mm_tab N X a3 b → post (c, f, a1, a2, a3, b, a5, a6, a7, a8)) : ∃ fu, wX_refresh_15 post c f fu 0 a1 a2 a3 a4 a5 a6 a7 a8 := by
  refine pk_loop (fun n k s => wX_refresh_15 post c f n (nI k) a1 a2 a3 s a5 a6 a7 a8) (fun k s => ∀ j, j < 144 → (j < k → mm_T N X a3 1 j (s j)) ∧ (k ≤ j → True)) 144 0 a4 (by omega) (fun j hj => ⟨fun z => absurd z (by omega), fun _ => trivial⟩) ?_ ?_
  · intro n s hs
    exact pk_le 144 144 (fun _ => mm_ref121 ok (fun k hk => (hs k hk).1 hk) h) (fun z => absurd z (by omega))
  · intro n k s hk hs hw
    refine pk_le 144 k (fun z => absurd z (by omega)) (fun _ => ⟨by decide, nm_r (mm_d12 (by omega)) ⟨by decide, nm_r (mm_r12 (by omega)) ?_⟩⟩)
    rw [show (1 : Int32) = nI 1 from rfl, mm_ix, mm_ix, mm_x2, mm_x2, nI_clamp (by omega), nI_clamp (by omega), nI_clamp (by omega), nI_clamp (by omega)]
    have dif : (a3 (2 * (k / 12)) = a3 (2 * (k % 12)) → ¬ a3 (2 * (k / 12) + 1) = a3 (2 * (k % 12) + 1)) → wX_refresh_79 post (wX_refresh_15 post c f n) (nI k) (nI (k / 12)) (nI (k % 12)) 1 c f a1 a2 a3 s a5 a6 a7 a8 := by
      intro hd
      refine mm_r79 ok hk (fun z => hw _ (mm_tabK (Q := fun _ _ => True) hs ?_)) (fun z t1 t2 => hw _ (mm_tabK (Q := fun _ _ => True) hs ?_))
      · rcases z with z | z
        · exact absurd z (by decide)
        · exact mm_T_n rfl z
      · exact ⟨1, rfl, Or.inr ⟨t1, t2, Or.inr ⟨0, rfl, by omega, trivial, fun g => hd g.1 g.2.1⟩⟩⟩
    refine ⟨vp_in_nI (by omega) (by omega), vp_in_nI (by omega) (by omega), br_c (fun e1 => ⟨vp_in_nI (by omega) (by omega), vp_in_nI (by omega) (by omega), br_c (fun e2 => ?_) (fun e2 => dif (fun _ => e2))⟩) (fun e1 => dif (fun z => absurd z e1))⟩
    refine mm_r79 ok hk (fun _ => hw _ (mm_tabK (Q := fun _ _ => True) hs ?_)) (fun z => absurd rfl z)
    by_cases t : mm_th N (k / 12) ∧ mm_th N (k % 12)
    · exact ⟨0, rfl, Or.inr ⟨t.1, t.2, Or.inl ⟨rfl, e1, e2, trivial, trivial⟩⟩⟩
    · exact mm_T_n rfl t
theorem mm_refresh {post : St1 → Prop} (ok : mm_ok N X a1 a2) (hf : f = 0 ∨ (f = 1 ∧ mm_tab N X a3 a4)) (h : ∀ b, mm_tab N X a3 b → post (c, 1, a1, a2, a3, b, a5, a6, a7, a8)) : wpX_refresh post (c, f, a1, a2, a3, a4, a5, a6, a7, a8) := by
  rcases hf with rfl | ⟨rfl, ht⟩
  · exact br_t rfl (mm_ref15 ok h)
  · exact br_f (by decide) (h a4 ht)
end
end
section
/-! ===== difference, alike, same, first ===== -/
section
variable {N X : Nat → Nat} {c f : Int32} {a1 a2 a3 a4 a5 a6 a7 a8 : Nat → Int32}
theorem mm_tab0 {p q : Nat} (tab : mm_tab N X a3 a4) (tp : mm_th N p) (tq : mm_th N q) : a4 (12 * p + q) = 0 ↔ mm_eq X a3 11 p q := by
  have hp := tp.1
  have hq := tq.1
  have h := tab (12 * p + q) (by omega)
  have d1 : (12 * p + q) / 12 = p := by omega
  have d2 : (12 * p + q) % 12 = q := by omega
  constructor
  · intro e
    have := mm_T_0 (by omega) h e (by rw [d1]; exact tp) (by rw [d2]; exact tq)
    rw [d1, d2] at this
    exact this
  · intro g
    obtain ⟨d, e, hd⟩ := h
    rw [d1, d2] at hd
    rcases hd with h | ⟨_, _, h | ⟨i, q1, q2, q3, q4⟩⟩
    · exact absurd ⟨tp, tq⟩ h.1
    · rw [e, h.1]; rfl
    · exact absurd (mm_eq_le (by omega) g) q4
theorem mm_fw {post : Int32 → Prop} {p q : Nat} (ok : mm_ok N X a1 a2) (tab : mm_tab N X a3 a4) (tp : mm_th N p) (tq : mm_th N q) (h : ∀ r, r ≤ 4095 → mm_ld X a3 p q r → post (nI r)) : ∀ t w, t ≤ 10 → 1 ≤ w → (w + 1) * 2 ^ (t + 1) ≤ 4096 → mm_eq X a3 t (mm_run X p w) (mm_run X q w) → ¬ mm_eq X a3 (t + 1) (mm_run X p w) (mm_run X q w) → (∀ v, 1 ≤ v → v < w * 2 ^ (t + 1) → mm_rsp X a3 p v = mm_rsp X a3 q v) → wX_firstWord_28 post c f a1 a2 a3 a4 a5 a6 a7 a8 (t + 1) (nI (mm_run X p w)) (nI (mm_run X q w)) (nI (t + 1)) (nI w) := by
  have cl := mm_ok_cl ok
  intro t
  induction t with
  | zero =>
    intro w _ hw hb heq hne hmin
    have tr := (mm_run_th cl tp w).1
    have ts := (mm_run_th cl tq w).1
    have tr1 := tr.1
    have ts1 := ts.1
    have e0 : mm_rsp X a3 p w = mm_rsp X a3 q w := hmin w hw (by omega)
    refine pk_le 1 1 (fun _ => ?_) (fun z => absurd z (by omega))
    rw [mm_x2 (mm_run X p w), mm_x2 (mm_run X q w), nI_clamp (by omega), nI_clamp (by omega)]
    refine ⟨vp_in_nI (by omega) (by omega), vp_in_nI (by omega) (by omega), br_c (fun ea => ?_) (fun ea => ?_)⟩
    · have eb : ¬ a3 (2 * mm_run X p w + 1) = a3 (2 * mm_run X q w + 1) := fun z => hne ⟨ea, z, trivial, trivial⟩
      show post (2 * nI w + nI 1)
      rw [mm_ix]
      refine h _ (by omega) ⟨by omega, fun v h1 h2 => ?_, fun z => ?_⟩
      · by_cases ev : v = 2 * w + 0
        · rw [ev, mm_rsp_2 hw (by omega), mm_rsp_2 hw (by omega), e0]
          show _ + a3 (2 * mm_run X p w) = _ + a3 (2 * mm_run X q w)
          rw [ea]
        · exact hmin v h1 (by omega)
      · rw [mm_rsp_2 hw (by omega), mm_rsp_2 hw (by omega), e0] at z
        exact eb (mm_4 z)
    · show post (2 * nI w + nI 0)
      rw [mm_ix]
      refine h _ (by omega) ⟨by omega, fun v h1 h2 => hmin v h1 (by omega), fun z => ?_⟩
      rw [mm_rsp_2 hw (by omega), mm_rsp_2 hw (by omega), e0] at z
      exact ea (mm_4 z)
  | succ t ih =>
    intro w ht hw hb heq hne hmin
    have tr := (mm_run_th cl tp w).1
    have ts := (mm_run_th cl tq w).1
    have pw : 1 ≤ 2 ^ t := Nat.pow_pos (by omega)
    have p1 : 2 ^ (t + 1) = 2 * 2 ^ t := by rw [Nat.pow_succ]; omega
    have p2 : 2 ^ (t + 1 + 1) = 4 * 2 ^ t := by rw [Nat.pow_succ, Nat.pow_succ]; omega
    rw [p2] at hb hmin
    rw [p1] at ih
    generalize 2 ^ t = P at *
    have w4 : w * (4 * P) = 2 * w * (2 * P) := by rw [← Nat.mul_assoc, ← Nat.mul_assoc, Nat.mul_comm 2 w, Nat.mul_assoc w 2 2]
    have w4' : (w + 1) * (4 * P) = 2 * w * (2 * P) + 4 * P := by rw [Nat.add_mul, w4]; omega
    have w5 : (2 * w + 1) * (2 * P) = 2 * w * (2 * P) + 2 * P := by rw [Nat.add_mul]; omega
    have w6 : (2 * w + 1 + 1) * (2 * P) = 2 * w * (2 * P) + 4 * P := by rw [Nat.add_mul, w5]; omega
    rw [w4'] at hb
    rw [w4] at hmin
    have w7 : 2 * w * 1 ≤ 2 * w * P := Nat.mul_le_mul_left _ pw
    have w8 : 2 * w * (2 * P) = 2 * (2 * w * P) := by rw [Nat.mul_left_comm]
    have x0 := mm_st_th cl tr (l := 0) (by omega)
    have y0 := mm_st_th cl ts (l := 0) (by omega)
    have x01 := x0.1.1
    have y01 := y0.1.1
    have el0 := tab (12 * mm_st X (mm_run X p w) 0 + mm_st X (mm_run X q w) 0) (by omega)
    have d1 : (12 * mm_st X (mm_run X p w) 0 + mm_st X (mm_run X q w) 0) / 12 = mm_st X (mm_run X p w) 0 := by omega
    have d2 : (12 * mm_st X (mm_run X p w) 0 + mm_st X (mm_run X q w) 0) % 12 = mm_st X (mm_run X q w) 0 := by omega
    refine pk_le (t + 1 + 1) 1 (fun z => absurd z (by omega)) (fun _ => mm_after (l := 0) ok tr (by omega) (mm_after (l := 0) ok ts (by omega) ?_))
    rw [mm_ix12, nI_clamp (by omega), nI_pred]
    refine ⟨vp_in_nI (by omega) (by omega), br_c (fun el => ?_) (fun el => ?_)⟩
    · have nx := mm_T_eq (by omega) (by omega) (by omega) el0 (by rw [d1]; exact x0.1) (by rw [d2]; exact y0.1) el
      rw [d1, d2] at nx
      refine mm_after (l := 0) ok tr (by omega) (mm_after (l := 0) ok ts (by omega) (nm_r (e' := nI (2 * w + 0)) (mm_ix w 0) (nm_r (e' := nI (t + 1)) (pk_m1 (t + 1)) ?_)))
      rw [← mm_run_2 hw (by omega), ← mm_run_2 hw (by omega)]
      refine ih (2 * w + 0) (by omega) (by omega) (by rw [Nat.add_zero]; omega) ?_ ?_ (fun v h1 h2 => hmin v h1 (by rw [Nat.add_zero] at h2; exact h2))
      · rw [mm_run_2 hw (by omega), mm_run_2 hw (by omega)]; exact mm_eq_n heq (by omega)
      · rw [mm_run_2 hw (by omega), mm_run_2 hw (by omega)]; exact nx
    · have nx := mm_T_ne (by omega) (by omega) el0 (by rw [d1]; exact x0.1) (by rw [d2]; exact y0.1) el (by rw [d1, d2]; exact mm_eq_n heq (by omega))
      rw [d1, d2] at nx
      refine mm_after (l := 1) ok tr (by omega) (mm_after (l := 1) ok ts (by omega) (nm_r (e' := nI (2 * w + 1)) (mm_ix w 1) (nm_r (e' := nI (t + 1)) (pk_m1 (t + 1)) ?_)))
      rw [← mm_run_2 hw (by omega), ← mm_run_2 hw (by omega)]
      refine ih (2 * w + 1) (by omega) (by omega) (by omega) ?_ ?_ (fun v h1 h2 => ?_)
      · rw [mm_run_2 hw (by omega), mm_run_2 hw (by omega)]; exact mm_eq_n heq (by omega)
      · rw [mm_run_2 hw (by omega), mm_run_2 hw (by omega)]
        exact fun z => hne ⟨heq.1, heq.2.1, nx, z⟩
      · by_cases z : v < 2 * w * (2 * P)
        · exact hmin v h1 z
        · refine (mm_G (e := t + 1) (t + 1) (2 * w + 0) v (by omega) ?_ (Nat.le_refl _) (hmin _ (by omega) (by omega)) ?_).1
          · rw [p1]
            exact Nat.div_eq_of_lt_le (by rw [Nat.add_zero]; omega) (by rw [Nat.add_zero]; omega)
          · rw [mm_run_2 hw (by omega), mm_run_2 hw (by omega)]; exact nx
theorem mm_firstW {post : Int32 → Prop} {p q : Nat} (ok : mm_ok N X a1 a2) (tab : mm_tab N X a3 a4) (tp : mm_th N p) (tq : mm_th N q) (h0 : mm_eq X a3 11 p q → post 0) (h1 : ∀ r, r ≤ 4095 → ¬ mm_eq X a3 11 p q → mm_ld X a3 p q r → post (nI r)) : wpX_firstWord post (c, f, a1, a2, a3, a4, a5, a6, a7, a8) (nI p) (nI q) := by
  have hp := tp.1
  have hq := tq.1
  unfold wpX_firstWord
  dsimp only
  rw [mm_ix12, nI_clamp (by omega)]
  refine ⟨vp_in_nI (by omega) (by omega), nm_e ?_⟩
  obtain ⟨d, e, hd⟩ := tab (12 * p + q) (by omega)
  rw [show (12 * p + q) / 12 = p by omega, show (12 * p + q) % 12 = q by omega] at hd
  rw [e]
  rcases hd with h | ⟨_, _, h | ⟨i, q1, q2, q3, q4⟩⟩
  · exact absurd ⟨tp, tq⟩ h.1
  · rw [h.1]
    exact br_t rfl (h0 h.2)
  · rw [q1]
    have hp2 : ∀ i, i ≤ 10 → (1 + 1) * 2 ^ (i + 1) ≤ 4096 := by decide
    refine br_f (nI_ne0 (by omega) (by omega)) ⟨i + 1, ?_⟩
    have := mm_fw (c := c) (f := f) (a5 := a5) (a6 := a6) (a7 := a7) (a8 := a8) ok tab tp tq (fun r hr hl => h1 r hr (fun z => q4 (mm_eq_le (by omega) z)) hl) i 1 (by omega) (by omega) (hp2 i (by omega)) (by rw [mm_run_1, mm_run_1]; exact q3) (by rw [mm_run_1, mm_run_1]; exact q4) (fun v v1 v2 => mm_F1 q3 v1 (by omega))
    rw [mm_run_1, mm_run_1] at this
    exact this
theorem mm_thP {m s : Nat} (ok : mm_ok N X a1 a2) (hm : m < 2) (hs : s < N m) : mm_th N (6 * m + s) := by
  have h6 := (ok.1 m hm).2.2
  exact ⟨by omega, by rw [show (6 * m + s) % 6 = s by omega, show (6 * m + s) / 6 = m by omega]; exact hs⟩
theorem mm_diffW {post : Int32 → St1 → Prop} {m s m' s' : Nat} (ok : mm_ok N X a1 a2) (tab : mm_tab N X a3 a4) (hm : m < 2) (hs : s < N m) (hm' : m' < 2) (hs' : s' < N m') (h0 : mm_eq X a3 11 (6 * m + s) (6 * m' + s') → post 0 (c, 1, a1, a2, a3, a4, a5, a6, a7, a8)) (h1 : ∀ r, r ≤ 4095 → ¬ mm_eq X a3 11 (6 * m + s) (6 * m' + s') → mm_ld X a3 (6 * m + s) (6 * m' + s') r → post (nI r) (c, 1, a1, a2, a3, a4, a5, a6, a7, a8)) : wpX_difference post (c, 1, a1, a2, a3, a4, a5, a6, a7, a8) (nI (8 * m + s)) (nI (8 * m' + s')) := by
  have g := (ok.1 m hm).2.2
  have g' := (ok.1 m' hm').2.2
  unfold wpX_difference
  dsimp only
  refine mm_placeOf ok hm (by omega) (fun z => absurd z (by omega)) (fun _ => ?_)
  refine mm_placeOf ok hm' (by omega) (fun z => absurd z (by omega)) (fun _ => ?_)
  refine br_f (nI_pos (by omega)) (br_t (nI_pos' (by omega)) ?_)
  refine br_f (by decide) ?_
  exact mm_firstW ok tab (mm_thP ok hm hs) (mm_thP ok hm' hs') h0 h1
theorem mm_alikeW {post : Int32 → St1 → Prop} {m s m' s' : Nat} (ok : mm_ok N X a1 a2) (tab : mm_tab N X a3 a4) (hm : m < 2) (hs : s < N m) (hm' : m' < 2) (hs' : s' < N m') (h1 : mm_eq X a3 11 (6 * m + s) (6 * m' + s') → post 1 (c, 1, a1, a2, a3, a4, a5, a6, a7, a8)) (h0 : ¬ mm_eq X a3 11 (6 * m + s) (6 * m' + s') → post 0 (c, 1, a1, a2, a3, a4, a5, a6, a7, a8)) : wpX_alike post (c, 1, a1, a2, a3, a4, a5, a6, a7, a8) (nI (8 * m + s)) (nI (8 * m' + s')) := by
  have g := (ok.1 m hm).2.2
  have g' := (ok.1 m' hm').2.2
  have t0 := mm_tab0 tab (mm_thP ok hm hs) (mm_thP ok hm' hs')
  unfold wpX_alike
  dsimp only
  refine mm_placeOf ok hm (by omega) (fun z => absurd z (by omega)) (fun _ => ?_)
  refine mm_placeOf ok hm' (by omega) (fun z => absurd z (by omega)) (fun _ => ?_)
  refine br_f (nI_pos (by omega)) (br_t (nI_pos' (by omega)) ?_)
  refine br_f (by decide) ?_
  rw [mm_ix12, nI_clamp (by omega)]
  exact ⟨vp_in_nI (by omega) (by omega), br_c (fun e => h1 (t0.mp e)) (fun e => h0 (fun z => e (t0.mpr z)))⟩
theorem mm_sameW {post : Int32 → St1 → Prop} (ok : mm_ok N X a1 a2) (tab : mm_tab N X a3 a4) (h1 : mm_eq X a3 11 0 6 → post 1 (c, 1, a1, a2, a3, a4, a5, a6, a7, a8)) (h0 : ¬ mm_eq X a3 11 0 6 → post 0 (c, 1, a1, a2, a3, a4, a5, a6, a7, a8)) : wpX_same post (c, 1, a1, a2, a3, a4, a5, a6, a7, a8) := by
  have g := (ok.1 0 (by omega)).2
  have g' := (ok.1 1 (by omega)).2
  have t0 := mm_tab0 tab (mm_thP (m := 0) (s := 0) ok (by omega) (by omega)) (mm_thP (m := 1) (s := 0) ok (by omega) (by omega))
  unfold wpX_same
  dsimp only
  refine br_f (by decide) ?_
  exact br_c (fun e => h1 (t0.mp e)) (fun e => h0 (fun z => e (t0.mpr z)))
theorem mm_first63 {post : Int32 → St1 → Prop} {m s m' s' r : Nat} (ok : mm_ok N X a1 a2) (tab : mm_tab N X a3 a4) (hm : m < 2) (hs : s < N m) (hm' : m' < 2) (hs' : s' < N m') (hr : r ≤ 4095) (hn : ¬ mm_eq X a3 11 (6 * m + s) (6 * m' + s')) (hl : mm_ld X a3 (6 * m + s) (6 * m' + s') r) (h : post 1 (c, 1, a1, a2, a3, a4, a5, a6, a7, a8)) : wL_first_63 post (nI (8 * m + s)) (nI (8 * m' + s')) (nI r) c 1 a1 a2 a3 a4 a5 a6 a7 a8 := by
  have hl1 := hl.1
  refine br_f (nI_ne0 (by omega) (by omega)) ?_
  refine mm_alikeW ok tab hm' hs' hm hs (fun z => absurd (mm_eq_s z) hn) (fun _ => ?_)
  refine br_t rfl ?_
  refine mm_rspW ok hm hs hl1 hr ?_
  refine mm_rspW ok hm' hs' hl1 hr ?_
  refine br_f hl.2.2 ?_
  refine mm_diffW ok tab hm' hs' hm hs (fun z => absurd (mm_eq_s z) hn) (fun r' hr' _ hl' => ?_)
  refine br_t (by rw [mm_ld_u hl hl']) h
theorem mm_firstL {post : Int32 → St1 → Prop} {m s m' s' : Nat} (ok : mm_ok N X a1 a2) (tab : mm_tab N X a3 a4) (hm : m < 2) (hs : s < N m) (hm' : m' < 2) (hs' : s' < N m') (h : post 1 (c, 1, a1, a2, a3, a4, a5, a6, a7, a8)) : wpL_first post (c, 1, a1, a2, a3, a4, a5, a6, a7, a8) (nI (8 * m + s)) (nI (8 * m' + s')) := by
  unfold wpL_first
  dsimp only
  refine mm_diffW ok tab hm hs hm' hs' (fun he => ?_) (fun r hr hn hl => ?_)
  · refine br_t rfl ?_
    refine pk_loop (σ := Unit) (fun n k _ => wL_first_23 post (nI (8 * m + s)) (nI (8 * m' + s')) 0 256 c 1 a1 a2 a3 a4 a5 a6 a7 a8 n (nI k)) (fun k _ => 1 ≤ k) 256 1 () (by omega) (by omega) ?_ ?_
    · intro n _ _
      refine pk_le 256 256 (fun _ => ?_) (fun z => absurd z (by omega))
      refine br_t rfl ?_
      exact mm_alikeW ok tab hm hs hm' hs' (fun _ => br_t rfl h) (fun z => absurd he z)
    · intro n k _ hk hk1 hw
      refine pk_le 256 k (fun z => absurd z (by omega)) (fun _ => pk_le 256 k (fun z => absurd z (by omega)) (fun _ => ?_))
      refine mm_rspW ok hm hs hk1 (by omega) ?_
      refine mm_rspW ok hm' hs' hk1 (by omega) ?_
      exact br_t (mm_F1 he hk1 (show k < 2 ^ 12 by omega)) (nm_r (nI_1 k) (hw () (by omega)))
  · have hl1 := hl.1
    refine br_f (nI_ne0 (by omega) (by omega)) ?_
    have H := mm_first63 (c := c) (a5 := a5) (a6 := a6) (a7 := a7) (a8 := a8) ok tab hm hs hm' hs' hr hn hl h
    refine pk_loop (σ := Unit) (fun n k _ => wL_first_23 post (nI (8 * m + s)) (nI (8 * m' + s')) (nI r) (nI r) c 1 a1 a2 a3 a4 a5 a6 a7 a8 n (nI k)) (fun k _ => 1 ≤ k) (min r 256) 1 () (by omega) (by omega) ?_ ?_
    · intro n _ _
      exact pk_le r (min r 256) (fun _ => H) (fun z => pk_le 256 (min r 256) (fun _ => H) (fun y => absurd z (by omega)))
    · intro n k _ hk hk1 hw
      refine pk_le r k (fun z => absurd z (by omega)) (fun _ => pk_le 256 k (fun z => absurd z (by omega)) (fun _ => ?_))
      refine mm_rspW ok hm hs hk1 (by omega) ?_
      refine mm_rspW ok hm' hs' hk1 (by omega) ?_
      exact br_t (hl.2.1 k hk1 (by omega)) (nm_r (nI_1 k) (hw () (by omega)))
end
end
section
/-! ===== number: classes by breadth first ===== -/
def mm_E (X : Nat → Nat) (A : Nat → Int32) (u v : Nat) : Prop := mm_eq X A 11 (mm_run X 0 u) (mm_run X 0 v)
theorem mm_st0 {N X : Nat → Nat} (cl : mm_cl N X) {p l : Nat} (hp : p < N 0) (hl : l < 2) : mm_st X p l < N 0 := by
  have h6 := (cl.1 0 (by omega)).2
  have t := mm_st_th cl (mm_th0 h6 hp) hl
  exact mm_th0' t.1 (by rw [t.2]; omega)
theorem mm_cong {N X : Nat → Nat} {A : Nat → Int32} (cl : mm_cl N X) {p q l : Nat} (hp : p < N 0) (hq : q < N 0) (hl : l < 2) (h : mm_eq X A 11 p q) : mm_eq X A 11 (mm_st X p l) (mm_st X q l) :=
  mm_eq_n (mm_moore (cl.1 0 (by omega)).2 (fun p l hp hl => mm_st0 cl hp hl) hp hq h) hl
theorem mm_run00 {N X : Nat → Nat} (cl : mm_cl N X) (v : Nat) : mm_run X 0 v < N 0 := mm_run0 cl (by have := cl.1 0 (by omega); omega) v
theorem mm_Erc {N X : Nat → Nat} {A : Nat → Int32} (cl : mm_cl N X) : mm_rc (mm_E X A) := by
  refine ⟨fun u => mm_eq_r 11 _, fun u v h => mm_eq_s h, fun u v w h g => mm_eq_t h g, fun u v l hu hv hl h => ?_⟩
  unfold mm_E
  rw [mm_run_2 hu hl, mm_run_2 hv hl]
  exact mm_cong cl (mm_run00 cl u) (mm_run00 cl v) hl h
theorem mm_K6 {N X : Nat → Nat} {A : Nat → Int32} {B K c : Nat} {W : Nat → Nat} (cl : mm_cl N X) (bf : mm_bf (mm_E X A) B K W c) : K ≤ N 0 := by
  have := mm_php (P := fun _ => True) (N 0) K (fun j => mm_run X 0 (W j)) (fun k _ => ⟨mm_run00 cl _, trivial⟩) (fun i j hij hj e => bf.2.2.2.1 i j hij hj ?_)
  · exact Nat.le_trans this (mm_cnt_le _ _)
  · unfold mm_E
    have e' : mm_run X 0 (W i) = mm_run X 0 (W j) := e
    rw [e']
    exact mm_eq_r 11 _
theorem mm_Kf {N X : Nat → Nat} {A : Nat → Int32} {B K c : Nat} {W : Nat → Nat} (cl : mm_cl N X) (bf : mm_bf (mm_E X A) B K W c) : K ≤ mm_cnt (mm_fresh X A 11) (N 0) := by
  have hr : ∀ j, ∃ r, r ≤ mm_run X 0 (W j) ∧ mm_eq X A 11 r (mm_run X 0 (W j)) ∧ mm_fresh X A 11 r := fun j => mm_rep 11 _
  obtain ⟨g, hg⟩ := Classical.skolem.mp hr
  refine mm_php (N 0) K g (fun k _ => ⟨Nat.lt_of_le_of_lt (hg k).1 (mm_run00 cl _), (hg k).2.2⟩) (fun i j hij hj e => bf.2.2.2.1 i j hij hj ?_)
  have h1 := (hg i).2.1
  have h2 := (hg j).2.1
  rw [e] at h1
  exact mm_eq_t (mm_eq_s h2) h1
def mm_NI (N X : Nat → Nat) (A : Nat → Int32) (K : Nat) (W : Nat → Nat) (b5 b6 : Nat → Int32) : Prop :=
  (∀ j, j < K → b6 j = nI (mm_run X 0 (W j))) ∧ (∀ j, j < K → W j < 2 ^ (j + 1)) ∧ (∀ s, s < N 0 → (∀ j, j < K → mm_eq X A 11 s (mm_run X 0 (W j)) → b5 s = nI j) ∧ ((∀ j, j < K → ¬ mm_eq X A 11 s (mm_run X 0 (W j))) → b5 s = -1))
def mm_cls (X : Nat → Nat) (A : Nat → Int32) (p k : Nat) : Prop := ∃ w, w < 64 ∧ mm_new (mm_E X A) w ∧ mm_cnt (mm_new (mm_E X A)) w = k ∧ mm_eq X A 11 p (mm_run X 0 w)
noncomputable def mm_kk (X : Nat → Nat) (A : Nat → Int32) : Nat := mm_cnt (mm_new (mm_E X A)) 64
def mm_NS (N X : Nat → Nat) (A : Nat → Int32) (K : Nat) (b5 b6 : Nat → Int32) : Prop :=
  K = mm_kk X A ∧ (∀ k, k < K → ∃ w, w < 64 ∧ mm_new (mm_E X A) w ∧ mm_cnt (mm_new (mm_E X A)) w = k ∧ b6 k = nI (mm_run X 0 w)) ∧ (∀ s, s < N 0 → (∃ k, k < K ∧ mm_cls X A s k ∧ b5 s = nI k) ∨ ((∀ k, ¬ mm_cls X A s k) ∧ b5 s = -1))
def mm_NF (N X : Nat → Nat) (A : Nat → Int32) : Prop := 1 ≤ mm_kk X A ∧ mm_kk X A ≤ N 0 ∧ mm_kk X A ≤ mm_cnt (mm_fresh X A 11) (N 0) ∧ (∀ v, 1 ≤ v → v < 128 → ∃ k, mm_cls X A (mm_run X 0 v) k)
theorem mm_num_sum {N X : Nat → Nat} {A : Nat → Int32} {K c : Nat} {W : Nat → Nat} {b5 b6 : Nat → Int32} (cl : mm_cl N X) (bf : mm_bf (mm_E X A) 128 K W c) (hc : 128 ≤ c) (ni : mm_NI N X A K W b5 b6) : mm_NS N X A K b5 b6 ∧ mm_NF N X A := by
  have hE := mm_Erc (A := A) cl
  have hK := mm_K6 cl bf
  have h6 := (cl.1 0 (by omega)).2
  have pw : ∀ j, j < 6 → 2 ^ (j + 1) ≤ 64 := by decide
  have W64 : ∀ j, j < K → W j < 64 := fun j hj => Nat.lt_of_lt_of_le (ni.2.1 j hj) (pw j (by omega))
  have eK : mm_kk X A = K := mm_bf_cK hE bf hc W64 (by omega)
  have wc : ∀ j, j < K → mm_new (mm_E X A) (W j) ∧ mm_cnt (mm_new (mm_E X A)) (W j) = j := fun j hj => ⟨mm_bf_W hE bf hj (by have := W64 j hj; omega), mm_bf_cW hE bf hc hj (by have := W64 j hj; omega)⟩
  refine ⟨⟨eK.symm, fun k hk => ⟨W k, W64 k hk, (wc k hk).1, (wc k hk).2, ni.1 k hk⟩, fun s hs => ?_⟩, by rw [eK]; exact bf.1, by rw [eK]; exact hK, by rw [eK]; exact mm_Kf cl bf, fun v h1 h2 => ?_⟩
  · by_cases x : ∃ j, j < K ∧ mm_eq X A 11 s (mm_run X 0 (W j))
    · obtain ⟨j, hj, ej⟩ := x
      exact Or.inl ⟨j, hj, ⟨W j, W64 j hj, (wc j hj).1, (wc j hj).2, ej⟩, (ni.2.2 s hs).1 j hj ej⟩
    · refine Or.inr ⟨fun k => ?_, (ni.2.2 s hs).2 (fun j hj ej => x ⟨j, hj, ej⟩)⟩
      rintro ⟨w, w1, w2, _, w4⟩
      obtain ⟨j, hj, ej⟩ := mm_bf_N bf hc w2 (by omega)
      rw [← ej] at w4
      exact x ⟨j, hj, w4⟩
  · obtain ⟨j, hj, _, ej⟩ := bf.2.2.2.2.2 v h1 (by omega) h2
    exact ⟨j, W j, W64 j hj, (wc j hj).1, (wc j hj).2, ej⟩
theorem mm_nm1 {j : Nat} (h : j < 2 ^ 31) : ¬ nI j = -1 := fun e => absurd (nI_pos' h) (by rw [e]; decide)
section
variable {N X : Nat → Nat} {c f : Int32} {a1 a2 a3 a4 a5 a6 a7 a8 : Nat → Int32}
theorem mm_admitW {post : St1 → Prop} {K p : Nat} (ok : mm_ok N X a1 a2) (tab : mm_tab N X a3 a4) (hK : K < 12) (hp : p < N 0) (h : ∀ b5, (∀ s, s < N 0 → (mm_eq X a3 11 p s → b5 s = nI K) ∧ (¬ mm_eq X a3 11 p s → b5 s = a5 s)) → post (nI (K + 1), f, a1, a2, a3, a4, b5, upd a6 K (nI p), a7, a8)) : wpX_admit post (nI K, f, a1, a2, a3, a4, a5, a6, a7, a8) (nI 0) (nI p) := by
  obtain ⟨g1, g2, g3⟩ := ok.1 0 (by omega)
  have tp : mm_th N p := mm_th0 g3 hp
  unfold wpX_admit
  dsimp only
  rw [nI_clamp (show K < 2 ^ 31 by omega)]
  refine ⟨pk_in K 12 hK, nm_e ?_⟩
  refine pk_loop (fun n s b => wX_admit_12 post (nI 0) (nI p) (nI K) f n (nI s) a1 a2 a3 a4 b (upd a6 K (nI p)) a7 a8) (fun s b => ∀ j, j < N 0 → (j < s → (mm_eq X a3 11 p j → b j = nI K) ∧ (¬ mm_eq X a3 11 p j → b j = a5 j)) ∧ (s ≤ j → b j = a5 j)) (N 0) 0 a5 (by omega) (fun j _ => ⟨fun z => absurd z (by omega), fun _ => rfl⟩) ?_ ?_
  · intro n b hb
    refine ⟨pk_in 0 2 (by omega), ?_⟩
    rw [nI_clamp (by omega), g1]
    exact pk_le (N 0) (N 0) (fun _ => nm_r (nI_1 K) (h b (fun s hs => (hb s hs).1 hs))) (fun z => absurd z (by omega))
  · intro n s b hs hb hw
    have ts := mm_th0 g3 hs
    have t0 := mm_tab0 tab tp ts
    refine ⟨pk_in 0 2 (by omega), ?_⟩
    rw [nI_clamp (show 0 < 2 ^ 31 by omega), g1]
    refine pk_le (N 0) s (fun z => absurd z (by omega)) (fun _ => nm_r (e' := nI s) (by rw [mm_ix6]; congr 1; omega) ?_)
    rw [mm_ix12, nI_clamp (by omega), nI_clamp (by omega)]
    refine ⟨vp_in_nI (by omega) (by omega), br_c (fun e => ⟨pk_in s 12 (by omega), nm_e (nm_r (nI_1 s) (hw _ (fun j hj => ?_)))⟩) (fun e => nm_r (nI_1 s) (hw _ (fun j hj => ?_)))⟩
    · by_cases ej : j = s
      · rw [ej, pk_us]
        exact ⟨fun _ => ⟨fun _ => rfl, fun z => absurd (t0.mp e) z⟩, fun z => absurd z (by omega)⟩
      · rw [pk_un ej]
        exact ⟨fun z => (hb j hj).1 (by omega), fun z => (hb j hj).2 (by omega)⟩
    · by_cases ej : j = s
      · rw [ej]
        exact ⟨fun _ => ⟨fun z => absurd (t0.mpr z) e, fun _ => (hb s hs).2 (Nat.le_refl s)⟩, fun z => absurd z (by omega)⟩
      · exact ⟨fun z => (hb j hj).1 (by omega), fun z => (hb j hj).2 (by omega)⟩
theorem mm_NI_new {K v : Nat} {W : Nat → Nat} {b5 b5' b6 : Nat → Int32} {A : Nat → Int32} (ni : mm_NI N X A K W b5 b6) (hv : v < 2 ^ (K + 1)) (hn : ∀ j, j < K → ¬ mm_eq X A 11 (mm_run X 0 v) (mm_run X 0 (W j))) (h5 : ∀ s, s < N 0 → (mm_eq X A 11 (mm_run X 0 v) s → b5' s = nI K) ∧ (¬ mm_eq X A 11 (mm_run X 0 v) s → b5' s = b5 s)) : mm_NI N X A (K + 1) (mm_ups W K v) b5' (upd b6 K (nI (mm_run X 0 v))) := by
  obtain ⟨n1, n2, n3⟩ := ni
  refine ⟨fun j hj => ?_, fun j hj => ?_, fun s hs => ⟨fun j hj => ?_, fun hx => ?_⟩⟩
  · by_cases e : j = K
    · rw [e, pk_us, mm_ups_s]
    · rw [pk_un e, mm_ups_n e]; exact n1 j (by omega)
  · by_cases e : j = K
    · rw [e, mm_ups_s]; exact hv
    · rw [mm_ups_n e]; exact n2 j (by omega)
  · by_cases e : j = K
    · rw [e, mm_ups_s]
      exact fun z => (h5 s hs).1 (mm_eq_s z)
    · rw [mm_ups_n e]
      intro z
      rw [(h5 s hs).2 (fun y => hn j (by omega) (mm_eq_t y z))]
      exact (n3 s hs).1 j (by omega) z
  · have hK := hx K (by omega)
    rw [mm_ups_s] at hK
    rw [(h5 s hs).2 (fun y => hK (mm_eq_s y))]
    refine (n3 s hs).2 (fun j hj => ?_)
    have := hx j (by omega)
    rw [mm_ups_n (by omega)] at this
    exact this
theorem mm_num57s {post : St1 → Prop} {J : Int32 → Int32 → Int32 → (Nat → Int32) → (Nat → Int32) → (Nat → Int32) → (Nat → Int32) → (Nat → Int32) → (Nat → Int32) → (Nat → Int32) → (Nat → Int32) → Prop} {n k l K : Nat} {W : Nat → Nat} (ok : mm_ok N X a1 a2) (tab : mm_tab N X a3 a4) (hk : k < K) (hl : l < 2) (bf : mm_bf (mm_E X a3) 128 K W (2 * W k + l)) (ni : mm_NI N X a3 K W a5 a6) (h : ∀ K' W' b5 b6, k < K' → mm_bf (mm_E X a3) 128 K' W' (2 * W' k + (l + 1)) → mm_NI N X a3 K' W' b5 b6 → wX_number_57 post J (nI 0) (nI k) n (nI (l + 1)) (nI K') f a1 a2 a3 a4 b5 b6 a7 a8) : wX_number_57 post J (nI 0) (nI k) (n + 1) (nI l) (nI K) f a1 a2 a3 a4 a5 a6 a7 a8 := by
  have cl := mm_ok_cl ok
  have h6 := (cl.1 0 (by omega)).2
  have hK := mm_K6 cl bf
  have hW1 := mm_bf_1 bf hk
  refine pk_le 2 l (fun z => absurd z (by omega)) (fun _ => ⟨pk_in k 12 (by omega), ?_⟩)
  rw [nI_clamp (show k < 2 ^ 31 by omega), ni.1 k hk]
  refine mm_after ok (mm_th0 h6 (mm_run00 cl (W k))) hl ?_
  rw [← mm_run_2 hW1 hl]
  have hv := mm_run00 cl (2 * W k + l)
  rw [nI_clamp (show mm_run X 0 (2 * W k + l) < 2 ^ 31 by omega)]
  refine ⟨vp_in_nI (by omega) (by omega), ?_⟩
  by_cases x : ∃ j, j < K ∧ mm_eq X a3 11 (mm_run X 0 (2 * W k + l)) (mm_run X 0 (W j))
  · obtain ⟨j, hj, ej⟩ := x
    refine br_f ?_ (nm_r (nI_1 l) (h K W a5 a6 hk (mm_bf_old bf hj ej) ni))
    rw [(ni.2.2 _ hv).1 j hj ej]
    exact mm_nm1 (by omega)
  · have hn : ∀ j, j < K → ¬ mm_eq X a3 11 (mm_run X 0 (2 * W k + l)) (mm_run X 0 (W j)) := fun j hj ej => x ⟨j, hj, ej⟩
    refine br_t ((ni.2.2 _ hv).2 hn) ?_
    refine mm_admitW ok tab (by omega) hv (fun b5 h5 => nm_r (nI_1 l) (h (K + 1) (mm_ups W K (2 * W k + l)) b5 _ (by omega) ?_ (mm_NI_new ni ?_ hn h5)))
    · rw [mm_ups_n (show k ≠ K by omega)]
      exact mm_bf_new (mm_Erc cl) bf hn
    · have t1 := ni.2.1 k hk
      have t2 := Nat.pow_le_pow_right (n := 2) (by omega) (show k + 2 ≤ K + 1 by omega)
      rw [Nat.pow_succ 2 (k + 1)] at t2
      omega
theorem mm_num41 {post : St1 → Prop} {K : Nat} {W : Nat → Nat} (ok : mm_ok N X a1 a2) (tab : mm_tab N X a3 a4) (bf : mm_bf (mm_E X a3) 128 K W (2 * W 0)) (ni : mm_NI N X a3 K W a5 a6) (h : ∀ K' b5 b6, mm_NS N X a3 K' b5 b6 → mm_NF N X a3 → post (nI K', f, a1, a2, a3, a4, b5, b6, a7, a8)) : ∃ fu, wX_number_41 post (nI 0) fu 0 (nI K) f a1 a2 a3 a4 a5 a6 a7 a8 := by
  have cl := mm_ok_cl ok
  have h6 := (cl.1 0 (by omega)).2
  refine pk_loop (fun n k (s : Nat × (Nat → Nat) × (Nat → Int32) × (Nat → Int32)) => wX_number_41 post (nI 0) n (nI k) (nI s.1) f a1 a2 a3 a4 s.2.2.1 s.2.2.2 a7 a8) (fun k s => k ≤ s.1 ∧ mm_NI N X a3 s.1 s.2.1 s.2.2.1 s.2.2.2 ∧ ∃ c, mm_bf (mm_E X a3) 128 s.1 s.2.1 c ∧ (k < s.1 → c = 2 * s.2.1 k) ∧ (k = s.1 → 128 ≤ c)) 6 0 (K, W, a5, a6) (by omega) ⟨by omega, ni, 2 * W 0, bf, fun _ => rfl, fun z => absurd bf.1 (by dsimp only at z; omega)⟩ ?_ ?_
  · rintro n ⟨K', W', b5, b6⟩ ⟨q1, q2, c', q3, q4, q5⟩
    dsimp only at q1 q2 q3 q4 q5 ⊢
    have hK := mm_K6 cl q3
    have r := mm_num_sum cl q3 (q5 (by omega)) q2
    exact pk_le 6 6 (fun _ => h K' b5 b6 r.1 r.2) (fun z => absurd z (by omega))
  · rintro n k ⟨K', W', b5, b6⟩ hk ⟨q1, q2, c', q3, q4, q5⟩ hw
    dsimp only at q1 q2 q3 q4 q5 ⊢
    have hK := mm_K6 cl q3
    refine pk_le 6 k (fun z => absurd z (by omega)) (fun _ => pk_le K' k (fun z => ?_) (fun z => ⟨3, ?_⟩))
    · have r := mm_num_sum cl q3 (q5 (by omega)) q2
      exact h K' b5 b6 r.1 r.2
    · rw [q4 z] at q3
      refine mm_num57s (l := 0) ok tab z (by omega) q3 q2 (fun K1 W1 c5 c6 k1 bf1 ni1 => ?_)
      refine mm_num57s (l := 1) ok tab k1 (by omega) bf1 ni1 (fun K2 W2 d5 d6 k2 bf2 ni2 => ?_)
      refine pk_le 2 2 (fun _ => nm_r (nI_1 k) (hw (K2, W2, d5, d6) ?_)) (fun z => absurd z (by omega))
      dsimp only
      by_cases e : k + 1 < K2
      · have hlt := bf2.2.2.1 k (k + 1) (by omega) e
        exact ⟨by omega, ni2, 2 * W2 (k + 1), mm_bf_ext (mm_Erc cl) bf2 k2 (by omega) (fun _ => Nat.le_refl _), fun _ => rfl, fun z => absurd z (by omega)⟩
      · exact ⟨by omega, ni2, 2 * W2 k + 2 + 128, mm_bf_ext (mm_Erc cl) bf2 k2 (by omega) (fun z => absurd z e), fun z => absurd z e, fun _ => by omega⟩
theorem mm_numberW {post : St1 → Prop} (ok : mm_ok N X a1 a2) (hf : f = 0 ∨ (f = 1 ∧ mm_tab N X a3 a4)) (h : ∀ b K b5 b6, (f = 1 → b = a4) → mm_tab N X a3 b → mm_NS N X a3 K b5 b6 → mm_NF N X a3 → post (nI K, 1, a1, a2, a3, b, b5, b6, a7, a8)) : wpX_number post (c, f, a1, a2, a3, a4, a5, a6, a7, a8) (nI 0) := by
  have cl := mm_ok_cl ok
  have h0 := cl.1 0 (by omega)
  have main : ∀ b, mm_tab N X a3 b → (f = 1 → b = a4) → ∃ fu, wX_number_6 post (nI 0) c 1 fu 0 a1 a2 a3 b a5 a6 a7 a8 := by
    intro b tab hb
    refine pk_loop (fun n k s => wX_number_6 post (nI 0) c 1 n (nI k) a1 a2 a3 b s a6 a7 a8) (fun k s => ∀ j, j < k → s j = -1) 12 0 a5 (by omega) (fun j hj => absurd hj (by omega)) ?_ ?_
    · intro n s hs
      refine pk_le 12 12 (fun _ => ?_) (fun z => absurd z (by omega))
      refine mm_admitW (K := 0) (p := 0) ok tab (by omega) (by omega) (fun b5 h5 => ?_)
      refine mm_num41 (K := 1) (W := fun _ => 1) ok tab (mm_bf_0 (mm_Erc cl)) ?_ (fun K' c5 c6 ns nf => h b K' c5 c6 hb tab ns nf)
      refine ⟨fun j hj => ?_, fun j hj => ?_, fun x hx => ⟨fun j hj e => ?_, fun hn => ?_⟩⟩
      · rw [show j = 0 by omega, pk_us, mm_run_1]
      · rw [show j = 0 by omega]; decide
      · rw [mm_run_1] at e
        rw [show j = 0 by omega]
        exact (h5 x hx).1 (mm_eq_s e)
      · have := hn 0 (by omega)
        rw [mm_run_1] at this
        rw [(h5 x hx).2 (fun y => this (mm_eq_s y))]
        exact hs x (by omega)
    · intro n k s hk hs hw
      refine pk_le 12 k (fun z => absurd z (by omega)) (fun _ => ⟨pk_in k 12 hk, nm_e (nm_r (nI_1 k) (hw _ (fun j hj => ?_)))⟩)
      rw [nI_clamp (by omega)]
      by_cases e : j = k
      · rw [e, pk_us]
      · rw [pk_un e]; exact hs j (by omega)
  unfold wpX_number
  dsimp only
  rcases hf with rfl | ⟨rfl, ht⟩
  · exact mm_refresh ok (Or.inl rfl) (fun b tab => main b tab (fun z => absurd z (by decide)))
  · exact br_f (by decide) (main a4 ht (fun _ => rfl))
end
end
section
/-! ===== core, classOf, coreNext, coreAnswer, classes ===== -/
section
variable {N X : Nat → Nat} {c f : Int32} {a1 a2 a3 a4 a5 a6 a7 a8 : Nat → Int32}
theorem mm_place0 {post : Int32 → Prop} {x : Nat} (ok : mm_ok N X a1 a2) (hx : x < N 0) (h : post (nI x)) : wpX_placeOf post (c, f, a1, a2, a3, a4, a5, a6, a7, a8) (nI x) := by
  have h6 := (ok.1 0 (by omega)).2.2
  have := mm_placeOf (m := 0) (s := x) (post := post) (c := c) (f := f) (a3 := a3) (a4 := a4) (a5 := a5) (a6 := a6) (a7 := a7) (a8 := a8) ok (by omega) (by omega) (fun z => absurd z (by omega)) (fun _ => by rw [show 6 * 0 + x = x by omega]; exact h)
  rw [show 8 * 0 + x = x by omega] at this
  exact this
theorem mm_run0W {post : Int32 → Prop} {x v : Nat} (ok : mm_ok N X a1 a2) (hx : x < N 0) (hv1 : 1 ≤ v) (hv : v ≤ 4095) (h : post (nI (mm_run X x v))) : wpX_run post (c, f, a1, a2, a3, a4, a5, a6, a7, a8) (nI x) (nI v) := by
  have h6 := (ok.1 0 (by omega)).2.2
  have hr := mm_run0 (mm_ok_cl ok) hx v
  have := mm_runW (m := 0) (s := x) (post := post) (c := c) (f := f) (a3 := a3) (a4 := a4) (a5 := a5) (a6 := a6) (a7 := a7) (a8 := a8) ok (by omega) hx hv1 hv (by rw [show 6 * 0 + x = x by omega, Nat.mod_eq_of_lt (by omega)]; exact h)
  rw [show 8 * 0 + x = x by omega] at this
  exact this
theorem mm_rsp0W {post : Int32 → Prop} {x v : Nat} (ok : mm_ok N X a1 a2) (hx : x < N 0) (hv1 : 1 ≤ v) (hv : v ≤ 4095) (h : post (mm_rsp X a3 x v)) : wpX_response post (c, f, a1, a2, a3, a4, a5, a6, a7, a8) (nI x) (nI v) := by
  have := mm_rspW (m := 0) (s := x) (post := post) (c := c) (f := f) (a3 := a3) (a4 := a4) (a5 := a5) (a6 := a6) (a7 := a7) (a8 := a8) ok (by omega) hx hv1 hv (by rw [show 6 * 0 + x = x by omega]; exact h)
  rw [show 8 * 0 + x = x by omega] at this
  exact this
theorem mm_alike0W {post : Int32 → St1 → Prop} {x y : Nat} (ok : mm_ok N X a1 a2) (tab : mm_tab N X a3 a4) (hx : x < N 0) (hy : y < N 0) (h1 : mm_eq X a3 11 x y → post 1 (c, 1, a1, a2, a3, a4, a5, a6, a7, a8)) (h0 : ¬ mm_eq X a3 11 x y → post 0 (c, 1, a1, a2, a3, a4, a5, a6, a7, a8)) : wpX_alike post (c, 1, a1, a2, a3, a4, a5, a6, a7, a8) (nI x) (nI y) := by
  have := mm_alikeW (m := 0) (s := x) (m' := 0) (s' := y) (post := post) (c := c) (a5 := a5) (a6 := a6) (a7 := a7) (a8 := a8) ok tab (by omega) hx (by omega) hy (by rw [show 6 * 0 + x = x by omega, show 6 * 0 + y = y by omega]; exact h1) (by rw [show 6 * 0 + x = x by omega, show 6 * 0 + y = y by omega]; exact h0)
  rw [show 8 * 0 + x = x by omega, show 8 * 0 + y = y by omega] at this
  exact this
theorem mm_coreW {post : Int32 → St1 → Prop} (ok : mm_ok N X a1 a2) (hf : f = 0 ∨ (f = 1 ∧ mm_tab N X a3 a4)) (h : ∀ b b5 b6, mm_tab N X a3 b → mm_NF N X a3 → post (nI (mm_kk X a3)) (nI (mm_kk X a3), 1, a1, a2, a3, b, b5, b6, a7, a8)) : wpX_core post (c, f, a1, a2, a3, a4, a5, a6, a7, a8) (nI 0) := by
  unfold wpX_core
  dsimp only
  refine mm_isM (m := 0) (by omega) (br_f (by decide) (mm_numberW ok hf (fun b K b5 b6 _ tab ns nf => ?_)))
  rw [ns.1]
  exact h b b5 b6 tab nf
theorem mm_num1 {post : St1 → Prop} (ok : mm_ok N X a1 a2) (tab : mm_tab N X a3 a4) (h : ∀ K b5 b6, mm_NS N X a3 K b5 b6 → post (nI K, 1, a1, a2, a3, a4, b5, b6, a7, a8)) : wpX_number post (c, 1, a1, a2, a3, a4, a5, a6, a7, a8) (nI 0) :=
  mm_numberW ok (Or.inr ⟨rfl, tab⟩) (fun b K b5 b6 hb _ ns _ => by rw [hb rfl]; exact h K b5 b6 ns)
theorem mm_classOfW {post : Int32 → St1 → Prop} {x : Nat} (ok : mm_ok N X a1 a2) (tab : mm_tab N X a3 a4) (hx : x < N 0) (h : ∀ c' b5 b6 r, ((∃ k, k < mm_kk X a3 ∧ mm_cls X a3 x k ∧ r = nI k) ∨ ((∀ k, ¬ mm_cls X a3 x k) ∧ r = -2)) → post r (c', 1, a1, a2, a3, a4, b5, b6, a7, a8)) : wpX_classOf post (c, 1, a1, a2, a3, a4, a5, a6, a7, a8) (nI x) := by
  have h6 := (ok.1 0 (by omega)).2.2
  unfold wpX_classOf
  dsimp only
  refine mm_place0 ok hx (br_t (nI_pos' (by omega)) ⟨by decide, ?_⟩)
  rw [mm_d6 (by omega), show x / 6 = 0 by omega]
  refine mm_num1 ok tab (fun K b5 b6 ns => ?_)
  dsimp only
  rw [nI_clamp (show x < 2 ^ 31 by omega)]
  refine ⟨pk_in x 12 (by omega), ?_⟩
  rcases ns.2.2 x hx with ⟨k, k1, k2, k3⟩ | ⟨k1, k2⟩
  · rw [ns.1] at k1
    refine br_f ?_ ⟨pk_in x 12 (by omega), h _ b5 b6 _ (Or.inl ⟨k, k1, k2, k3⟩)⟩
    rw [k3]
    have := mm_cnt_le (mm_new (mm_E X a3)) 64
    unfold mm_kk at k1
    exact mm_nm1 (by omega)
  · exact br_t k2 (h _ b5 b6 _ (Or.inr ⟨k1, rfl⟩))
theorem mm_coreNextW {post : Int32 → St1 → Prop} {k l : Nat} (ok : mm_ok N X a1 a2) (tab : mm_tab N X a3 a4) (nf : mm_NF N X a3) (hk : k < mm_kk X a3) (hl : l < 2) (h : ∀ c' b5 b6 w j, w < 64 → mm_new (mm_E X a3) w → mm_cnt (mm_new (mm_E X a3)) w = k → mm_cls X a3 (mm_run X 0 (2 * w + l)) j → post (nI j) (c', 1, a1, a2, a3, a4, b5, b6, a7, a8)) : wpX_coreNext post (c, 1, a1, a2, a3, a4, a5, a6, a7, a8) (nI 0) (nI k) (nI l) := by
  have cl := mm_ok_cl ok
  have h6 := (ok.1 0 (by omega)).2.2
  have hK := nf.2.1
  unfold wpX_coreNext
  dsimp only
  refine mm_isM (m := 0) (by omega) (br_f (by decide) (mm_num1 ok tab (fun K b5 b6 ns => ?_)))
  have eK := ns.1
  have main : wX_coreNext_41 post (nI k) (nI l) (nI K) 1 a1 a2 a3 a4 b5 b6 a7 a8 := by
    obtain ⟨w, w1, w2, w3, w4⟩ := ns.2.1 k (by omega)
    have hw := w2.1
    unfold wX_coreNext_41
    rw [nI_clamp (show k < 2 ^ 31 by omega), w4]
    refine ⟨pk_in k 12 (by omega), mm_after ok (mm_th0 h6 (mm_run00 cl w)) hl ?_⟩
    rw [← mm_run_2 hw hl]
    have hv := mm_run00 cl (2 * w + l)
    rw [nI_clamp (show mm_run X 0 (2 * w + l) < 2 ^ 31 by omega)]
    refine ⟨vp_in_nI (by omega) (by omega), ?_⟩
    rcases ns.2.2 _ hv with ⟨j, j1, j2, j3⟩ | ⟨j1, _⟩
    · rw [j3]
      exact h _ b5 b6 w j w1 w2 w3 j2
    · obtain ⟨j, hj⟩ := nf.2.2.2 (2 * w + l) (by omega) (by omega)
      exact absurd hj (j1 j)
  dsimp only
  exact br_f (nI_pos (by omega)) (br_t (nI_lt (by omega) (by omega)) (pk_eq l 0 (fun _ => main) (fun _ => pk_eq l 1 (fun _ => main) (fun z => absurd hl (by omega)))))
theorem mm_coreNextA {post : Int32 → St1 → Prop} (ok : mm_ok N X a1 a2) (tab : mm_tab N X a3 a4) (nf : mm_NF N X a3) (h : ∀ c' b5 b6, post (-2) (c', 1, a1, a2, a3, a4, b5, b6, a7, a8)) : wpX_coreNext post (c, 1, a1, a2, a3, a4, a5, a6, a7, a8) (nI 0) (nI (mm_kk X a3)) (nI 0) := by
  have h6 := (ok.1 0 (by omega)).2.2
  have hK := nf.2.1
  unfold wpX_coreNext
  dsimp only
  refine mm_isM (m := 0) (by omega) (br_f (by decide) (mm_num1 ok tab (fun K b5 b6 ns => ?_)))
  have eK := ns.1
  dsimp only
  exact br_f (nI_pos (by omega)) (br_f (nI_nlt (by omega) (by omega)) (h _ b5 b6))
theorem mm_coreNextB {post : Int32 → St1 → Prop} (ok : mm_ok N X a1 a2) (tab : mm_tab N X a3 a4) (nf : mm_NF N X a3) (h : ∀ c' b5 b6, post (-3) (c', 1, a1, a2, a3, a4, b5, b6, a7, a8)) : wpX_coreNext post (c, 1, a1, a2, a3, a4, a5, a6, a7, a8) (nI 0) (nI 0) (nI 2) := by
  have h6 := (ok.1 0 (by omega)).2.2
  have hK := nf.1
  have hK' := nf.2.1
  unfold wpX_coreNext
  dsimp only
  refine mm_isM (m := 0) (by omega) (br_f (by decide) (mm_num1 ok tab (fun K b5 b6 ns => ?_)))
  have eK := ns.1
  dsimp only
  exact br_f (nI_pos (by omega)) (br_t (nI_lt (by omega) (by omega)) (br_f (by decide) (br_f (by decide) (h _ b5 b6))))
theorem mm_coreAnsW {post : Int32 → St1 → Prop} {k l : Nat} (ok : mm_ok N X a1 a2) (tab : mm_tab N X a3 a4) (nf : mm_NF N X a3) (hk : k < mm_kk X a3) (hl : l < 2) (h : ∀ c' b5 b6 w, w < 64 → mm_new (mm_E X a3) w → mm_cnt (mm_new (mm_E X a3)) w = k → post (a3 (2 * mm_run X 0 w + l)) (c', 1, a1, a2, a3, a4, b5, b6, a7, a8)) : wpX_coreAnswer post (c, 1, a1, a2, a3, a4, a5, a6, a7, a8) (nI 0) (nI k) (nI l) := by
  have cl := mm_ok_cl ok
  have h6 := (ok.1 0 (by omega)).2.2
  have hK := nf.2.1
  unfold wpX_coreAnswer
  dsimp only
  refine mm_isM (m := 0) (by omega) (br_f (by decide) (mm_num1 ok tab (fun K b5 b6 ns => ?_)))
  have eK := ns.1
  have main : wX_coreAnswer_41 post (nI k) (nI l) (nI K) 1 a1 a2 a3 a4 b5 b6 a7 a8 := by
    obtain ⟨w, w1, w2, w3, w4⟩ := ns.2.1 k (by omega)
    have hv := mm_run00 cl w
    unfold wX_coreAnswer_41
    rw [nI_clamp (show k < 2 ^ 31 by omega), w4, mm_ix, nI_clamp (by omega)]
    exact ⟨pk_in k 12 (by omega), vp_in_nI (by omega) (by omega), h _ b5 b6 w w1 w2 w3⟩
  dsimp only
  exact br_f (nI_pos (by omega)) (br_t (nI_lt (by omega) (by omega)) (pk_eq l 0 (fun _ => main) (fun _ => pk_eq l 1 (fun _ => main) (fun z => absurd hl (by omega)))))
theorem mm_cl33 {post : Int32 → St1 → Prop} {J : Int32 → Int32 → Prop} {s S : Nat} (ok : mm_ok N X a1 a2) (tab : mm_tab N X a3 a4) (hs : s < N 0) (h1 : mm_fresh X a3 11 s → J (nI (S + 1)) (nI (s + 1))) (h0 : ¬ mm_fresh X a3 11 s → J (nI S) (nI (s + 1))) : ∃ fu, wX_classes_33 post J (nI 0) (nI S) (nI s) c f a1 a2 a3 a4 a5 a6 a7 a8 fu 1 0 := by
  have h6 := (ok.1 0 (by omega)).2.2
  refine pk_loop (fun n r (g : Nat) => wX_classes_33 post J (nI 0) (nI S) (nI s) c f a1 a2 a3 a4 a5 a6 a7 a8 n (nI g) (nI r)) (fun r g => (g = 1 ∧ ∀ i, i < r → ¬ mm_eq X a3 11 i s) ∨ (g = 0 ∧ ∃ i, i < r ∧ mm_eq X a3 11 i s)) s 0 1 (by omega) (Or.inl ⟨rfl, fun i hi => absurd hi (by omega)⟩) ?_ ?_
  · intro n g hg
    refine pk_le s s (fun _ => ?_) (fun z => absurd z (by omega))
    rcases hg with ⟨rfl, hg⟩ | ⟨rfl, i, hi, ei⟩
    · exact br_f (by decide) (nm_r (nI_1 S) (nm_r (nI_1 s) (h1 hg)))
    · exact br_t rfl (nm_r (e' := nI S) (Int32.add_zero _) (nm_r (nI_1 s) (h0 (fun z => z i hi ei))))
  · intro n r g hr hg hw
    have tr := mm_th0 h6 (show r < N 0 by omega)
    have ts := mm_th0 h6 hs
    have t0 := mm_tab0 tab tr ts
    refine pk_le s r (fun z => absurd z (by omega)) (fun _ => ?_)
    rcases hg with ⟨rfl, hg⟩ | ⟨rfl, i, hi, ei⟩
    · refine br_f (by decide) ?_
      have e : 12 * (6 * nI 0 + nI r) + 6 * nI 0 + nI s = nI (12 * r + s) := by
        rw [mm_ix6, show (6 : Int32) * nI 0 = nI 0 from rfl, mm_ix12, nI_add]
        congr 1
        omega
      rw [e, nI_clamp (by omega)]
      refine ⟨vp_in_nI (by omega) (by omega), br_c (fun z => nm_r (nI_1 r) (hw 0 (Or.inr ⟨rfl, r, by omega, t0.mp z⟩))) (fun z => nm_r (nI_1 r) (hw 1 (Or.inl ⟨rfl, fun i hi ei => ?_⟩)))⟩
      by_cases eir : i = r
      · rw [eir] at ei
        exact z (t0.mpr ei)
      · exact hg i (by omega) ei
    · exact br_t rfl (nm_r (nI_1 r) (hw 0 (Or.inr ⟨rfl, i, by omega, ei⟩)))
theorem mm_classesW {post : Int32 → St1 → Prop} (ok : mm_ok N X a1 a2) (tab : mm_tab N X a3 a4) (h : post (nI (mm_cnt (mm_fresh X a3 11) (N 0))) (c, 1, a1, a2, a3, a4, a5, a6, a7, a8)) : wpX_classes post (c, 1, a1, a2, a3, a4, a5, a6, a7, a8) (nI 0) := by
  obtain ⟨g1, g2, g3⟩ := ok.1 0 (by omega)
  unfold wpX_classes
  dsimp only
  refine mm_isM (m := 0) (by omega) (br_f (by decide) (br_f (by decide) ?_))
  refine pk_loop (σ := Unit) (fun n s _ => wX_classes_17 post (nI 0) c 1 a1 a2 a3 a4 a5 a6 a7 a8 n (nI (mm_cnt (mm_fresh X a3 11) s)) (nI s)) (fun _ _ => True) (N 0) 0 () (by omega) trivial ?_ ?_
  · intro n _ _
    refine ⟨pk_in 0 2 (by omega), ?_⟩
    rw [nI_clamp (show 0 < 2 ^ 31 by omega), g1]
    exact pk_le (N 0) (N 0) (fun _ => h) (fun z => absurd z (by omega))
  · intro n s _ hs _ hw
    refine ⟨pk_in 0 2 (by omega), ?_⟩
    rw [nI_clamp (show 0 < 2 ^ 31 by omega), g1]
    have hw' := hw () trivial
    refine pk_le (N 0) s (fun z => absurd z (by omega)) (fun _ => mm_cl33 ok tab hs (fun z => ?_) (fun z => ?_))
    · rw [mm_cnt_t z] at hw'
      exact hw'
    · rw [mm_cnt_f z] at hw'
      exact hw'
theorem mm_classes2 {post : Int32 → St1 → Prop} (h : post (-1) (c, f, a1, a2, a3, a4, a5, a6, a7, a8)) : wpX_classes post (c, f, a1, a2, a3, a4, a5, a6, a7, a8) (nI 2) := by
  unfold wpX_classes
  dsimp only
  exact br_f (by decide) (br_f (by decide) (br_t rfl h))
end
end
section
/-! ===== reset: sets of states by breadth first ===== -/
def mm_ES (X : Nat → Nat) (n u v : Nat) : Prop := mm_S X n u = mm_S X n v
theorem mm_ESrc (X : Nat → Nat) (n : Nat) : mm_rc (mm_ES X n) := by
  refine ⟨fun u => rfl, fun u v h => Eq.symm h, fun u v w h g => Eq.trans h g, fun u v l hu hv hl h => ?_⟩
  unfold mm_ES at h ⊢
  rw [mm_S_2 hu hl, mm_S_2 hv hl, h]
theorem mm_or1 : ∀ t, t < 64 → ∀ y, y < 6 → nI t ||| ((1 : Int32) <<< (nI y &&& 31)) = nI (t ||| 2 ^ y) := by decide +kernel
theorem mm_allm : ∀ n, n < 7 → ((1 : Int32) <<< (nI n &&& 31)) - 1 = nI (2 ^ n - 1) := by decide +kernel
theorem mm_K64 {N X : Nat → Nat} {B K c : Nat} {W : Nat → Nat} (cl : mm_cl N X) (bf : mm_bf (mm_ES X (N 0)) B K W c) : K ≤ 64 := by
  have := mm_php (P := fun _ => True) 64 K (fun j => mm_S X (N 0) (W j)) (fun k _ => ⟨mm_S_lt cl _, trivial⟩) (fun i j hij hj e => bf.2.2.2.1 i j hij hj (Eq.symm e))
  exact Nat.le_trans this (mm_cnt_le _ _)
def mm_RI (N X : Nat → Nat) (K : Nat) (W : Nat → Nat) (b7 b8 : Nat → Int32) : Prop :=
  (∀ j, j < K → b7 j = nI (mm_S X (N 0) (W j))) ∧ (∀ j, j < K → W j < 4096) ∧ (∀ b, b < 64 → (∀ j, j < K → mm_S X (N 0) (W j) = b → b8 b = nI (W j)) ∧ ((∀ j, j < K → ¬ mm_S X (N 0) (W j) = b) → b8 b = 0))
def mm_RS (N X : Nat → Nat) (w : Nat) : Prop := (w = 0 ∧ ∀ v, 1 ≤ v → v < 128 → ¬ mm_all X (N 0) v) ∨ (1 ≤ w ∧ w < 4096 ∧ mm_all X (N 0) w ∧ ∀ v, 1 ≤ v → v < 128 → v < w → ¬ mm_all X (N 0) v)
theorem mm_all_E {N X : Nat → Nat} (cl : mm_cl N X) {u v : Nat} (hu : 1 ≤ u) (hv : 1 ≤ v) (h : mm_ES X (N 0) u v) (g : mm_all X (N 0) u) : mm_all X (N 0) v := by
  have t := (mm_all_S cl hu).mpr g
  unfold mm_ES at h
  rw [h] at t
  exact (mm_all_S cl hv).mp t
theorem mm_RI_new {N X : Nat → Nat} {K v : Nat} {W : Nat → Nat} {b7 b8 : Nat → Int32} (ri : mm_RI N X K W b7 b8) (hv : v < 4096) (hn : ∀ j, j < K → ¬ mm_S X (N 0) (W j) = mm_S X (N 0) v) : mm_RI N X (K + 1) (mm_ups W K v) (upd b7 K (nI (mm_S X (N 0) v))) (upd b8 (mm_S X (N 0) v) (nI v)) := by
  obtain ⟨n1, n2, n3⟩ := ri
  refine ⟨fun j hj => ?_, fun j hj => ?_, fun b hb => ⟨fun j hj => ?_, fun hx => ?_⟩⟩
  · by_cases e : j = K
    · rw [e, pk_us, mm_ups_s]
    · rw [pk_un e, mm_ups_n e]; exact n1 j (by omega)
  · by_cases e : j = K
    · rw [e, mm_ups_s]; exact hv
    · rw [mm_ups_n e]; exact n2 j (by omega)
  · by_cases e : j = K
    · rw [e, mm_ups_s]
      intro z
      rw [← z, pk_us]
    · rw [mm_ups_n e]
      intro z
      have hne : b ≠ mm_S X (N 0) v := fun y => hn j (by omega) (z.trans y)
      rw [pk_un hne]
      exact (n3 b hb).1 j (by omega) z
  · have hK := hx K (by omega)
    rw [mm_ups_s] at hK
    have hne : b ≠ mm_S X (N 0) v := fun y => hK y.symm
    rw [pk_un hne]
    refine (n3 b hb).2 (fun j hj => ?_)
    have := hx j (by omega)
    rw [mm_ups_n (by omega)] at this
    exact this
section
variable {N X : Nat → Nat} {c f : Int32} {a1 a2 a3 a4 a5 a6 a7 a8 : Nat → Int32}
theorem mm_togW {post : Int32 → Prop} {b l : Nat} (ok : mm_ok N X a1 a2) (hb : b < 64) (hl : l < 2) (h : post (nI (mm_tg X b l (N 0)))) : wpX_together post (c, f, a1, a2, a3, a4, a5, a6, a7, a8) (nI 0) (nI b) (nI l) := by
  have cl := mm_ok_cl ok
  obtain ⟨g1, g2, g3⟩ := ok.1 0 (by omega)
  refine pk_loop (σ := Unit) (fun n s _ => wX_together_6 post (nI 0) (nI b) (nI l) c f a1 a2 a3 a4 a5 a6 a7 a8 n (nI (mm_tg X b l s)) (nI s)) (fun _ _ => True) (N 0) 0 () (by omega) trivial ?_ ?_
  · intro n _ _
    refine ⟨pk_in 0 2 (by omega), ?_⟩
    rw [nI_clamp (show 0 < 2 ^ 31 by omega), g1]
    exact pk_le (N 0) (N 0) (fun _ => h) (fun z => absurd z (by omega))
  · intro n s _ hs _ hw
    have hw' := hw () trivial
    have th := mm_th0 g3 hs
    have hx := (ok.2 s th l hl).1
    have hx6 := mm_X6 cl th hl
    have ht := mm_tg_lt (X := X) (b := b) (l := l) s (fun i hi => mm_X6 cl (mm_th0 g3 (show i < N 0 by omega)) hl)
    refine ⟨pk_in 0 2 (by omega), ?_⟩
    rw [nI_clamp (show 0 < 2 ^ 31 by omega), g1]
    refine pk_le (N 0) s (fun z => absurd z (by omega)) (fun _ => ?_)
    have e : 12 * nI 0 + 2 * nI s + nI l = nI (2 * s + l) := by
      rw [mm_x2, show (12 : Int32) * nI 0 = nI 0 from rfl, nI_add, nI_add]
      congr 1
      omega
    rw [mm_bitat (by omega) (by omega), e, nI_clamp (show 2 * s + l < 2 ^ 31 by omega), hx, mm_or1 _ ht _ hx6]
    have tb : b.testBit s = decide (b / 2 ^ s % 2 = 1) := Nat.testBit_eq_decide_div_mod_eq
    refine pk_eq (b / 2 ^ s % 2) 1 (fun z => ⟨vp_in_nI (by omega) (by omega), nm_e (nm_r (nI_1 s) ?_)⟩) (fun z => nm_r (nI_1 s) ?_)
    · have eq : mm_tg X b l (s + 1) = mm_tg X b l s ||| 2 ^ X (2 * s + l) := if_pos (by rw [tb, z]; rfl)
      rw [eq] at hw'
      exact hw'
    · have eq : mm_tg X b l (s + 1) = mm_tg X b l s := if_neg (by rw [tb, decide_eq_true_eq]; exact z)
      rw [eq] at hw'
      exact hw'
theorem mm_res103 {post : Int32 → St1 → Prop} {J : Int32 → Int32 → (Nat → Int32) → (Nat → Int32) → (Nat → Int32) → (Nat → Int32) → (Nat → Int32) → (Nat → Int32) → (Nat → Int32) → (Nat → Int32) → Prop} {n k l K : Nat} {W : Nat → Nat} (ok : mm_ok N X a1 a2) (hk : k < K) (hl : l < 2) (bf : mm_bf (mm_ES X (N 0)) 128 K W (2 * W k + l)) (ri : mm_RI N X K W a7 a8)
    (hJ : 2048 ≤ W k → J (nI K) (nI (k + 1)) a1 a2 a3 a4 a5 a6 a7 a8)
    (h : ∀ K' W' b7 b8, k < K' → (∀ j, j ≤ k → W' j = W j) → mm_bf (mm_ES X (N 0)) 128 K' W' (2 * W' k + (l + 1)) → mm_RI N X K' W' b7 b8 → wX_reset_103 post J (nI 0) (nI k) (nI (mm_S X (N 0) (W k))) c f n (nI K') (nI (l + 1)) a1 a2 a3 a4 a5 a6 b7 b8) : wX_reset_103 post J (nI 0) (nI k) (nI (mm_S X (N 0) (W k))) c f (n + 1) (nI K) (nI l) a1 a2 a3 a4 a5 a6 a7 a8 := by
  have cl := mm_ok_cl ok
  have hK := mm_K64 cl bf
  have hW1 := mm_bf_1 bf hk
  have hW := ri.2.1 k hk
  have hS := mm_S_lt cl (W k)
  have e8 := (ri.2.2 _ hS).1 k hk rfl
  refine pk_le 2 l (fun z => absurd z (by omega)) (fun _ => ?_)
  rw [nI_clamp (show mm_S X (N 0) (W k) < 2 ^ 31 by omega), e8]
  refine ⟨vp_in_nI (by omega) (by omega), pk_le 2048 (W k) (fun z => nm_r (nI_1 k) (hJ z)) (fun z => ?_)⟩
  refine mm_togW ok hS hl ?_
  rw [← mm_S_2 hW1 hl]
  have hv := mm_S_lt cl (2 * W k + l)
  rw [nI_clamp (show mm_S X (N 0) (2 * W k + l) < 2 ^ 31 by omega), mm_ix, nI_clamp (show K < 2 ^ 31 by omega)]
  refine ⟨vp_in_nI (by omega) (by omega), ?_⟩
  by_cases x : ∃ j, j < K ∧ mm_S X (N 0) (W j) = mm_S X (N 0) (2 * W k + l)
  · obtain ⟨j, hj, ej⟩ := x
    have := mm_bf_1 bf hj
    have := ri.2.1 j hj
    refine br_f ?_ (nm_r (nI_1 l) (h K W a7 a8 hk (fun _ _ => rfl) (mm_bf_old bf hj (Eq.symm ej)) ri))
    rw [(ri.2.2 _ hv).1 j hj ej]
    exact nI_ne0 (by omega) (by omega)
  · have hn : ∀ j, j < K → ¬ mm_S X (N 0) (W j) = mm_S X (N 0) (2 * W k + l) := fun j hj ej => x ⟨j, hj, ej⟩
    have bf' := mm_bf_new (mm_ESrc X (N 0)) bf (fun j hj e => hn j hj (Eq.symm e))
    have hK' := mm_K64 cl bf'
    refine br_t ((ri.2.2 _ hv).2 hn) ⟨vp_in_nI (by omega) (by omega), vp_in_nI (by omega) (by omega), nm_e ⟨pk_in K 64 (by omega), nm_e (nm_r (nI_1 K) (nm_r (nI_1 l) (h (K + 1) (mm_ups W K (2 * W k + l)) _ _ (by omega) (fun j hj => mm_ups_n (by omega)) ?_ (mm_RI_new ri (by omega) hn))))⟩⟩
    rw [mm_ups_n (show k ≠ K by omega)]
    exact bf'
theorem mm_res60 {post : Int32 → St1 → Prop} {K : Nat} {W : Nat → Nat} (ok : mm_ok N X a1 a2) (bf : mm_bf (mm_ES X (N 0)) 128 K W (2 * W 0)) (ri : mm_RI N X K W a7 a8) (h : ∀ w b7 b8, mm_RS N X w → post (nI w) (c, f, a1, a2, a3, a4, a5, a6, b7, b8)) : ∃ fu, wX_reset_60 post (nI 0) c f fu (nI K) 0 a1 a2 a3 a4 a5 a6 a7 a8 := by
  have cl := mm_ok_cl ok
  have fin : ∀ (K' : Nat) (W' : Nat → Nat) (b7 b8 : Nat → Int32) c', (∀ j, j < K' → ¬ mm_all X (N 0) (W' j)) → mm_bf (mm_ES X (N 0)) 128 K' W' c' → 128 ≤ c' → post 0 (c, f, a1, a2, a3, a4, a5, a6, b7, b8) := by
    intro K' W' b7 b8 c' q1 q3 q5
    refine h 0 b7 b8 (Or.inl ⟨rfl, fun v h1 h2 h3 => ?_⟩)
    obtain ⟨j, j1, j2, j3⟩ := q3.2.2.2.2.2 v h1 (by omega) h2
    exact q1 j j1 (mm_all_E cl h1 (mm_bf_1 q3 j1) j3 h3)
  refine pk_loop (fun n k (s : Nat × (Nat → Nat) × (Nat → Int32) × (Nat → Int32)) => wX_reset_60 post (nI 0) c f n (nI s.1) (nI k) a1 a2 a3 a4 a5 a6 s.2.2.1 s.2.2.2) (fun k s => k ≤ s.1 ∧ mm_RI N X s.1 s.2.1 s.2.2.1 s.2.2.2 ∧ (∀ j, j < k → ¬ mm_all X (N 0) (s.2.1 j)) ∧ ∃ c, mm_bf (mm_ES X (N 0)) 128 s.1 s.2.1 c ∧ (k < s.1 → c = 2 * s.2.1 k) ∧ (k = s.1 → 128 ≤ c)) 64 0 (K, W, a7, a8) (by omega) ⟨by omega, ri, fun j hj => absurd hj (by omega), 2 * W 0, bf, fun _ => rfl, fun z => absurd bf.1 (by dsimp only at z; omega)⟩ ?_ ?_
  · rintro n ⟨K', W', b7, b8⟩ ⟨q1, q2, qa, c', q3, q4, q5⟩
    dsimp only at q1 q2 qa q3 q4 q5 ⊢
    have hK := mm_K64 cl q3
    exact pk_le 64 64 (fun _ => fin K' W' b7 b8 c' (fun j hj => qa j (by omega)) q3 (q5 (by omega))) (fun z => absurd z (by omega))
  · rintro n k ⟨K', W', b7, b8⟩ hk ⟨q1, q2, qa, c', q3, q4, q5⟩ hw
    dsimp only at q1 q2 qa q3 q4 q5 ⊢
    have hK := mm_K64 cl q3
    refine pk_le 64 k (fun z => absurd z (by omega)) (fun _ => pk_le K' k (fun z => fin K' W' b7 b8 c' (fun j hj => qa j (by omega)) q3 (q5 (by omega))) (fun z => ⟨pk_in k 64 (by omega), nm_r (e' := nI (mm_S X (N 0) (W' k))) ?_ ?_⟩))
    · rw [nI_clamp (by omega)]
      exact q2.1 k z
    · have hS := mm_S_lt cl (W' k)
      have hW1 := mm_bf_1 q3 z
      have hW2 := q2.2.1 k z
      rw [q4 z] at q3
      refine br_c (fun e => ⟨vp_in_nI (by omega) (by omega), ?_⟩) (fun e => ⟨3, ?_⟩)
      · rw [nI_clamp (by omega), (q2.2.2 _ hS).1 k z rfl]
        refine h (W' k) b7 b8 (Or.inr ⟨hW1, hW2, (mm_all_S cl hW1).mp e, fun v h1 h2 h3 h4 => ?_⟩)
        obtain ⟨j, j1, j2, j3⟩ := q3.2.2.2.2.2 v h1 (by omega) h2
        have hjk : j < k := by
          rcases Nat.lt_or_ge j k with y | y
          · exact y
          · have := mm_bf_le q3 y j1
            omega
        exact qa j hjk (mm_all_E cl h1 (mm_bf_1 q3 j1) j3 h4)
      · have na : ¬ mm_all X (N 0) (W' k) := fun y => e ((mm_all_S cl hW1).mpr y)
        have out : ∀ K1 W1 d7 d8 c1, k < K1 → (∀ j, j ≤ k → W1 j = W' j) → mm_RI N X K1 W1 d7 d8 → mm_bf (mm_ES X (N 0)) 128 K1 W1 c1 → (k + 1 < K1 → c1 = 2 * W1 (k + 1)) → (k + 1 = K1 → 128 ≤ c1) → wX_reset_60 post (nI 0) c f n (nI K1) (nI (k + 1)) a1 a2 a3 a4 a5 a6 d7 d8 := by
          intro K1 W1 d7 d8 c1 r1 r2 r3 r4 r5 r6
          refine hw (K1, W1, d7, d8) ⟨by dsimp only; omega, r3, fun j hj => ?_, c1, r4, r5, r6⟩
          dsimp only
          rw [r2 j (by omega)]
          by_cases ej : j = k
          · rw [ej]; exact na
          · exact qa j (by omega)
        have big : ∀ K1 W1 d7 d8 l, k < K1 → (∀ j, j ≤ k → W1 j = W' j) → mm_RI N X K1 W1 d7 d8 → l < 2 → mm_bf (mm_ES X (N 0)) 128 K1 W1 (2 * W1 k + l) → 2048 ≤ W1 k → wX_reset_60 post (nI 0) c f n (nI K1) (nI (k + 1)) a1 a2 a3 a4 a5 a6 d7 d8 := by
          intro K1 W1 d7 d8 l r1 r2 r3 hl r4 r5
          by_cases e : k + 1 < K1
          · have hlt := r4.2.2.1 k (k + 1) (by omega) e
            exact out K1 W1 d7 d8 (2 * W1 (k + 1)) r1 r2 r3 (mm_bf_skip r4 (by omega) (by omega)) (fun _ => rfl) (fun z => absurd z (by omega))
          · exact out K1 W1 d7 d8 _ r1 r2 r3 r4 (fun z => absurd z e) (fun _ => by omega)
        refine mm_res103 (l := 0) ok z (by omega) q3 q2 (fun y => big K' W' b7 b8 0 z (fun _ _ => rfl) q2 (by omega) q3 y) (fun K1 W1 d7 d8 k1 w1 bf1 ri1 => ?_)
        rw [← w1 k (Nat.le_refl k)]
        refine mm_res103 (l := 1) ok k1 (by omega) bf1 ri1 (fun y => big K1 W1 d7 d8 1 k1 w1 ri1 (by omega) bf1 y) (fun K2 W2 e7 e8 k2 w2 bf2 ri2 => ?_)
        have w3 : ∀ j, j ≤ k → W2 j = W' j := fun j hj => (w2 j hj).trans (w1 j hj)
        refine pk_le 2 2 (fun _ => nm_r (nI_1 k) ?_) (fun z => absurd z (by omega))
        by_cases e : k + 1 < K2
        · have hlt := bf2.2.2.1 k (k + 1) (by omega) e
          exact out K2 W2 e7 e8 (2 * W2 (k + 1)) k2 w3 ri2 (mm_bf_ext (mm_ESrc X (N 0)) bf2 k2 (by omega) (fun _ => Nat.le_refl _)) (fun _ => rfl) (fun z => absurd z (by omega))
        · exact out K2 W2 e7 e8 (2 * W2 k + 2 + 128) k2 w3 ri2 (mm_bf_ext (mm_ESrc X (N 0)) bf2 k2 (by omega) (fun z => absurd z e)) (fun z => absurd z e) (fun _ => by omega)
theorem mm_resetW {post : Int32 → St1 → Prop} (ok : mm_ok N X a1 a2) (h : ∀ w b7 b8, mm_RS N X w → post (nI w) (c, f, a1, a2, a3, a4, a5, a6, b7, b8)) : wpX_reset post (c, f, a1, a2, a3, a4, a5, a6, a7, a8) (nI 0) := by
  have cl := mm_ok_cl ok
  obtain ⟨g1, g2, g3⟩ := ok.1 0 (by omega)
  unfold wpX_reset
  dsimp only
  refine mm_isM (m := 0) (by omega) (br_f (by decide) ?_)
  refine pk_loop (fun n k s => wX_reset_11 post (nI 0) c f n (nI k) a1 a2 a3 a4 a5 a6 a7 s) (fun k s => ∀ j, j < k → s j = 0) 64 0 a8 (by omega) (fun j hj => absurd hj (by omega)) ?_ ?_
  · intro n s hs
    refine pk_le 64 64 (fun _ => ⟨pk_in 0 2 (by omega), ?_⟩) (fun z => absurd z (by omega))
    have hS := mm_S_lt cl 1
    have e1 := mm_S_1 (X := X) (N 0)
    rw [nI_clamp (show 0 < 2 ^ 31 by omega), g1, mm_allm _ (by omega), ← e1]
    refine nm_e ?_
    rw [nI_clamp (show mm_S X (N 0) 1 < 2 ^ 31 by omega)]
    refine ⟨vp_in_nI hS (by omega), nm_e (nm_e ?_)⟩
    refine mm_res60 (K := 1) (W := fun _ => 1) ok (mm_bf_0 (mm_ESrc X (N 0))) ⟨fun j hj => ?_, fun j hj => ?_, fun b hb => ⟨fun j hj e => ?_, fun hn => ?_⟩⟩ h
    · rw [show j = 0 by omega, pk_us]
    · dsimp only; omega
    · rw [← e, pk_us]
      rfl
    · have := hn 0 (by omega)
      have hne : b ≠ mm_S X (N 0) 1 := fun y => this y.symm
      rw [pk_un hne]
      exact hs b hb
  · intro n k s hk hs hw
    refine pk_le 64 k (fun z => absurd z (by omega)) (fun _ => ⟨pk_in k 64 hk, nm_e (nm_r (nI_1 k) (hw _ (fun j hj => ?_)))⟩)
    rw [nI_clamp (by omega)]
    by_cases e : j = k
    · rw [e, pk_us]
    · rw [pk_un e]; exact hs j (by omega)
end
end
section
/-! ===== the law's check of one state ===== -/
section
variable {N X : Nat → Nat} {A : Nat → Int32}
theorem mm_cnt_1 (E : Nat → Nat → Prop) : mm_cnt (mm_new E) 1 = 0 := mm_cnt_f (n := 0) (fun h => absurd h.1 (by omega))
theorem mm_word {v k : Nat} (hv : 1 ≤ v) (hk : mm_cls X A (mm_run X 0 v) k) : (k = mm_cnt (mm_new (mm_E X A)) v ∧ mm_cnt (mm_new (mm_E X A)) (v + 1) = mm_cnt (mm_new (mm_E X A)) v + 1) ∨ (k < mm_cnt (mm_new (mm_E X A)) v ∧ mm_cnt (mm_new (mm_E X A)) (v + 1) = mm_cnt (mm_new (mm_E X A)) v) := by
  obtain ⟨w, w1, w2, w3, w4⟩ := hk
  have hwv : w ≤ v := by
    rcases Nat.lt_or_ge v w with z | z
    · exact absurd (mm_eq_s w4) (w2.2 v hv z)
    · exact z
  by_cases e : w = v
  · rw [e] at w2 w3
    exact Or.inl ⟨w3.symm, mm_cnt_t w2⟩
  · have hn : ¬ mm_new (mm_E X A) v := fun hn => hn.2 w w2.1 (by omega) w4
    have t := mm_cnt_up (mm_new (mm_E X A)) (show w + 1 ≤ v by omega)
    rw [mm_cnt_t w2] at t
    exact Or.inr ⟨by omega, mm_cnt_f hn⟩
theorem mm_cnt_inj {P : Nat → Prop} {u v : Nat} (hu : P u) (hv : P v) (h : mm_cnt P u = mm_cnt P v) : u = v := by
  rcases Nat.lt_trichotomy u v with z | z | z
  · have t := mm_cnt_up P (show u + 1 ≤ v by omega)
    rw [mm_cnt_t hu] at t
    omega
  · exact z
  · have t := mm_cnt_up P (show v + 1 ≤ u by omega)
    rw [mm_cnt_t hv] at t
    omega
theorem mm_cls_u (cl : mm_cl N X) {p k k' : Nat} (h : mm_cls X A p k) (h' : mm_cls X A p k') : k = k' := by
  obtain ⟨w, w1, w2, w3, w4⟩ := h
  obtain ⟨u, u1, u2, u3, u4⟩ := h'
  have e : w = u := mm_new_u (mm_Erc (A := A) cl) w2 u2 (mm_eq_t (mm_eq_s w4) u4)
  rw [← w3, ← u3, e]
theorem mm_cls_e {p q k : Nat} (h : mm_cls X A p k) (e : mm_eq X A 11 q p) : mm_cls X A q k := by
  obtain ⟨w, w1, w2, w3, w4⟩ := h
  exact ⟨w, w1, w2, w3, mm_eq_t e w4⟩
theorem mm_cls_0 : mm_cls X A 0 0 := ⟨1, by omega, ⟨by omega, fun u h1 h2 => absurd h1 (by omega)⟩, mm_cnt_1 _, by rw [mm_run_1]; exact mm_eq_r 11 0⟩
end
section
variable {N X : Nat → Nat} {c f x1 x2 x3 x4 x5 x6 : Int32} {a1 a2 a3 a4 a5 a6 a7 a8 : Nat → Int32} {post : Int32 → St1 → Prop}
theorem mm_first0 {s t : Nat} (ok : mm_ok N X a1 a2) (tab : mm_tab N X a3 a4) (hs : s < N 0) (ht : t < N 1) (h : post 1 (c, 1, a1, a2, a3, a4, a5, a6, a7, a8)) : wpL_first post (c, 1, a1, a2, a3, a4, a5, a6, a7, a8) (nI s) (nI (8 + t)) := by
  have := mm_firstL (m := 0) (s := s) (m' := 1) (s' := t) (post := post) (c := c) (a5 := a5) (a6 := a6) (a7 := a7) (a8 := a8) ok tab (by omega) hs (by omega) ht h
  rw [show 8 * 0 + s = s by omega] at this
  exact this
theorem mm_h399 {J : Int32 → Prop} {v w : Nat} (ok : mm_ok N X a1 a2) (hv : 1 ≤ v) (hv' : v < 128) (rs : mm_RS N X w) (hJ : J (nI (v + 1))) : ∃ fu, wL_holds_399 post J x1 x2 (nI (N 0)) (nI w) (nI v) (nI (mm_run X 0 v)) c f a1 a2 a3 a4 a5 a6 a7 a8 fu 1 1 := by
  have cl := mm_ok_cl ok
  have h0 := cl.1 0 (by omega)
  have hw : w < 4096 := by
    rcases rs with r | r
    · omega
    · exact r.2.1
  refine pk_loop (fun n x (g : Nat) => wL_holds_399 post J x1 x2 (nI (N 0)) (nI w) (nI v) (nI (mm_run X 0 v)) c f a1 a2 a3 a4 a5 a6 a7 a8 n (nI g) (nI x)) (fun x g => (g = 1 ∧ ∀ i, i < x → mm_run X i v = mm_run X 0 v) ∨ (g = 0 ∧ ∃ i, i < N 0 ∧ ¬ mm_run X i v = mm_run X 0 v)) (N 0) 1 1 (by omega) (Or.inl ⟨rfl, fun i hi => by rw [show i = 0 by omega]⟩) ?_ ?_
  · intro n g hg
    refine pk_le (N 0) (N 0) (fun _ => ?_) (fun z => absurd z (by omega))
    rcases hg with ⟨rfl, hg⟩ | ⟨rfl, i, hi, ei⟩
    · have wv : w ≠ 0 ∧ w ≤ v := by
        rcases rs with r | r
        · exact absurd hg (r.2 v hv hv')
        · refine ⟨by omega, ?_⟩
          rcases Nat.lt_or_ge v w with z | z
          · exact absurd hg (r.2.2.2 v hv hv' z)
          · exact z
      exact br_f (by decide) (br_f (nI_ne0 (by omega) (by omega)) (br_f (nI_nlt wv.2 (by omega)) (br_f (by decide) (nm_r (nI_1 v) hJ))))
    · refine br_t rfl (br_t rfl (pk_eq w v (fun e => ?_) (fun _ => nm_r (nI_1 v) hJ)))
      rcases rs with r | r
      · omega
      · have := r.2.2.1
        rw [e] at this
        exact absurd (this i hi) ei
  · intro n x g hx hg hk
    refine pk_le (N 0) x (fun z => absurd z (by omega)) (fun _ => ?_)
    rcases hg with ⟨rfl, hg⟩ | ⟨rfl, hg⟩
    · refine br_f (by decide) ?_
      refine mm_run0W ok hx hv (by omega) ?_
      have r1 := mm_run0 cl hx v
      have r2 := mm_run00 cl v
      refine pk_eq (mm_run X x v) (mm_run X 0 v) (fun e => nm_r (nI_1 x) (hk 1 (Or.inl ⟨rfl, fun i hi => ?_⟩))) (fun e => nm_r (nI_1 x) (hk 0 (Or.inr ⟨rfl, x, hx, e⟩)))
      by_cases ei : i = x
      · rw [ei]; exact e
      · exact hg i (by omega)
    · exact br_t rfl (nm_r (nI_1 x) (hk 0 (Or.inr ⟨rfl, hg⟩)))
theorem mm_h376 {s t w : Nat} (ok : mm_ok N X a1 a2) (tab : mm_tab N X a3 a4) (hs : s < N 0) (ht : t < N 1) (rs : mm_RS N X w) (h : post 1 (c, 1, a1, a2, a3, a4, a5, a6, a7, a8)) : ∃ fu, wL_holds_376 post (nI s) (nI (8 + t)) (nI (N 0)) (nI w) c 1 a1 a2 a3 a4 a5 a6 a7 a8 fu 1 := by
  have h0 := (ok.1 0 (by omega)).2
  refine pk_loop (σ := Unit) (fun n v _ => wL_holds_376 post (nI s) (nI (8 + t)) (nI (N 0)) (nI w) c 1 a1 a2 a3 a4 a5 a6 a7 a8 n (nI v)) (fun v _ => 1 ≤ v) 128 1 () (by omega) (by omega) ?_ ?_
  · intro n _ _
    refine pk_le 128 128 (fun _ => ?_) (fun z => absurd z (by omega))
    refine mm_first0 ok tab hs ht ?_
    refine br_f (by decide) ?_
    refine mm_sameW ok tab (fun e => ?_) (fun e => ?_)
    · exact mm_alikeW (m := 0) (s := 0) (m' := 1) (s' := 0) ok tab (by omega) (by omega) (by omega) (by omega) (fun _ => br_t rfl h) (fun z => absurd e z)
    · exact mm_alikeW (m := 0) (s := 0) (m' := 1) (s' := 0) ok tab (by omega) (by omega) (by omega) (by omega) (fun z => absurd z e) (fun _ => br_t rfl h)
  · intro n v _ hv hv1 hw
    refine pk_le 128 v (fun z => absurd z (by omega)) (fun _ => ?_)
    refine mm_run0W (x := 0) ok (by omega) hv1 (by omega) ?_
    exact mm_h399 ok hv1 hv rs (hw () (by omega))
theorem mm_h269 {s t : Nat} (ok : mm_ok N X a1 a2) (tab : mm_tab N X a3 a4) (nf : mm_NF N X a3) (hs : s < N 0) (ht : t < N 1) (h : ∀ c' b5 b6 b7 b8, post 1 (c', 1, a1, a2, a3, a4, b5, b6, b7, b8)) : ∃ fu, wL_holds_269 post (nI s) (nI (8 + t)) (nI (N 0)) (nI (mm_kk X a3)) fu 0 1 c 1 a1 a2 a3 a4 a5 a6 a7 a8 := by
  have cl := mm_ok_cl ok
  have h0 := cl.1 0 (by omega)
  have key : ∃ n, wL_holds_269 post (nI s) (nI (8 + t)) (nI (N 0)) (nI (mm_kk X a3)) n (nI (mm_cnt (mm_new (mm_E X a3)) 1)) (nI 1) c 1 a1 a2 a3 a4 a5 a6 a7 a8 := by
    refine pk_loop (fun n v (q : Int32 × (Nat → Int32) × (Nat → Int32)) => wL_holds_269 post (nI s) (nI (8 + t)) (nI (N 0)) (nI (mm_kk X a3)) n (nI (mm_cnt (mm_new (mm_E X a3)) v)) (nI v) q.1 1 a1 a2 a3 a4 q.2.1 q.2.2 a7 a8) (fun v _ => 1 ≤ v) 64 1 (c, a5, a6) (by omega) (by omega) ?_ ?_
    · rintro n ⟨c', b5, b6⟩ _
      dsimp only
      refine pk_le 64 64 (fun _ => br_t rfl ?_) (fun z => absurd z (by omega))
      refine mm_coreNextA ok tab nf (fun c1 d5 d6 => br_t rfl ?_)
      refine mm_coreNextB ok tab nf (fun c2 e5 e6 => br_t rfl ?_)
      refine mm_classes2 (br_t rfl ?_)
      refine mm_resetW ok (fun w b7 b8 rs => ?_)
      exact mm_h376 ok tab hs ht rs (h _ _ _ _ _)
    · rintro n v ⟨c', b5, b6⟩ hv hv1 hw
      dsimp only
      refine pk_le 64 v (fun z => absurd z (by omega)) (fun _ => ?_)
      refine mm_run0W (x := 0) ok (by omega) hv1 (by omega) ?_
      refine mm_classOfW ok tab (mm_run00 cl v) (fun c1 d5 d6 r hr => ?_)
      dsimp only
      have hcv := mm_cnt_le (mm_new (mm_E X a3)) v
      have hw' := hw (c1, d5, d6) (by omega)
      dsimp only at hw'
      rcases hr with ⟨k, k1, k2, rfl⟩ | ⟨k1, _⟩
      · have hkk := nf.2.1
        refine br_f (nI_pos (by omega)) ?_
        rcases mm_word hv1 k2 with ⟨q1, q2⟩ | ⟨q1, q2⟩
        · rw [q2] at hw'
          rw [q1]
          exact br_t (nI_le (Nat.le_refl _) (by omega)) (br_t rfl (nm_r (nI_1 _) (nm_r (nI_1 v) hw')))
        · rw [q2] at hw'
          refine br_t (nI_le (by omega) (by omega)) (br_f ?_ (nm_r (nI_1 v) hw'))
          intro e
          have := (nI_eq (by omega) (by omega)).mp e
          omega
      · obtain ⟨k, hk⟩ := nf.2.2.2 v hv1 (by omega)
        exact absurd hk (k1 k)
  obtain ⟨n, hn⟩ := key
  rw [mm_cnt_1] at hn
  exact ⟨n, hn⟩
theorem mm_h162 {J : Int32 → Int32 → Int32 → Int32 → (Nat → Int32) → (Nat → Int32) → (Nat → Int32) → (Nat → Int32) → (Nat → Int32) → (Nat → Int32) → (Nat → Int32) → (Nat → Int32) → Prop} {x k : Nat} (ok : mm_ok N X a1 a2) (tab : mm_tab N X a3 a4) (nf : mm_NF N X a3) (hx : x < N 0) (hk : k < mm_kk X a3) (hc : mm_cls X a3 x k) (hJ : ∀ c' b5 b6, J x5 (nI (x + 1)) c' 1 a1 a2 a3 a4 b5 b6 a7 a8) : ∃ fu, wL_holds_162 post J x1 x2 x3 x4 x5 x6 (nI x) (nI k) fu 0 c 1 a1 a2 a3 a4 a5 a6 a7 a8 := by
  have cl := mm_ok_cl ok
  have h0 := cl.1 0 (by omega)
  have hkk := nf.2.1
  have lead : ∀ w, mm_new (mm_E X a3) w → mm_cnt (mm_new (mm_E X a3)) w = k → mm_eq X a3 11 x (mm_run X 0 w) := by
    intro w w1 w2
    obtain ⟨u, u1, u2, u3, u4⟩ := hc
    rw [mm_cnt_inj w1 u2 (w2.trans u3.symm)]
    exact u4
  refine pk_loop (fun n l (q : Int32 × (Nat → Int32) × (Nat → Int32)) => wL_holds_162 post J x1 x2 x3 x4 x5 x6 (nI x) (nI k) n (nI l) q.1 1 a1 a2 a3 a4 q.2.1 q.2.2 a7 a8) (fun _ _ => True) 2 0 (c, a5, a6) (by omega) trivial ?_ ?_
  · rintro n ⟨c', b5, b6⟩ _
    dsimp only
    exact pk_le 2 2 (fun _ => nm_r (nI_1 x) (hJ c' b5 b6)) (fun z => absurd z (by omega))
  · rintro n l ⟨c', b5, b6⟩ hl _ hw
    dsimp only
    refine pk_le 2 l (fun z => absurd z (by omega)) (fun _ => br_f (nI_pos (by omega)) ?_)
    have e2 : (2 : Int32) + nI l = nI (2 * 1 + l) := by
      rw [show (2 : Int32) = nI 2 from rfl, nI_add]
    rw [e2]
    have er : mm_run X x (2 * 1 + l) = mm_st X x l := by rw [mm_run_2 (by omega) hl, mm_run_1]
    refine mm_run0W ok hx (by omega) (by omega) ?_
    refine mm_coreAnsW ok tab nf hk hl (fun c1 d5 d6 w w1 w2 w3 => ?_)
    refine mm_rsp0W ok hx (by omega) (by omega) ?_
    refine br_t ?_ ?_
    · rw [mm_rsp_2 (by omega) hl, mm_rsp_1, mm_run_1, ← mm_eq_a (lead w w2 w3) hl]
      show _ = (0 : Int32) + _
      rw [Int32.zero_add]
    · refine mm_coreNextW ok tab nf hk hl (fun c2 e5 e6 u j u1 u2 u3 hj => ?_)
      refine mm_classOfW ok tab (mm_run0 cl hx _) (fun c3 g5 g6 r hr => ?_)
      dsimp only
      have ce : mm_cls X a3 (mm_run X x (2 * 1 + l)) j := by
        refine mm_cls_e hj ?_
        rw [er, mm_run_2 u2.1 hl]
        exact mm_cong cl hx (mm_run00 cl u) hl (lead u u2 u3)
      refine br_t ?_ (nm_r (nI_1 l) (hw (c3, g5, g6) trivial))
      rcases hr with ⟨i, i1, i2, rfl⟩ | ⟨i1, _⟩
      · rw [mm_cls_u cl ce i2]
      · exact absurd ce (i1 j)
theorem mm_h129 {J : Int32 → Int32 → Int32 → Int32 → (Nat → Int32) → (Nat → Int32) → (Nat → Int32) → (Nat → Int32) → (Nat → Int32) → (Nat → Int32) → (Nat → Int32) → (Nat → Int32) → Prop} {x : Nat} (ok : mm_ok N X a1 a2) (tab : mm_tab N X a3 a4) (nf : mm_NF N X a3) (hx : x < N 0) (hJ : ∀ c' b5 b6, J x5 (nI (x + 1)) c' 1 a1 a2 a3 a4 b5 b6 a7 a8) : wL_holds_129 post J x1 x2 x3 (nI (mm_kk X a3)) x5 x6 (nI x) c 1 a1 a2 a3 a4 a5 a6 a7 a8 := by
  have h0 := (ok.1 0 (by omega)).2
  have hkk := nf.2.1
  have m2 : ∀ j, j < 7 → ¬ nI j < (-2) ∧ (-2) < nI j := by decide
  unfold wL_holds_129
  refine mm_classOfW ok tab hx (fun c' b5 b6 r hr => ?_)
  dsimp only
  rcases hr with ⟨k, k1, k2, rfl⟩ | ⟨_, rfl⟩
  · exact br_f (m2 k (by omega)).1 (br_f (mm_nm1 (by omega)) (br_t (nI_lt k1 (by omega)) (mm_h162 ok tab nf hx k1 k2 hJ)))
  · exact br_f (by decide) (br_f (by decide) (br_t (m2 _ (by omega)).2 ⟨1, br_f (by decide) (br_t (by decide) (nm_r (nI_1 x) (hJ c' b5 b6)))⟩))
theorem mm_h93 {J : Int32 → Int32 → Int32 → Int32 → (Nat → Int32) → (Nat → Int32) → (Nat → Int32) → (Nat → Int32) → (Nat → Int32) → (Nat → Int32) → (Nat → Int32) → (Nat → Int32) → Prop} {x C : Nat} (ok : mm_ok N X a1 a2) (tab : mm_tab N X a3 a4) (hx : x < N 0) (h1 : mm_fresh X a3 11 x → wL_holds_129 post J x1 x2 x3 x4 (nI (C + 1)) x6 (nI x) c 1 a1 a2 a3 a4 a5 a6 a7 a8) (h0 : ¬ mm_fresh X a3 11 x → wL_holds_129 post J x1 x2 x3 x4 (nI C) x6 (nI x) c 1 a1 a2 a3 a4 a5 a6 a7 a8) : ∃ fu, wL_holds_93 post J x1 x2 x3 x4 (nI C) x6 (nI x) fu 1 0 c 1 a1 a2 a3 a4 a5 a6 a7 a8 := by
  have h6 := (ok.1 0 (by omega)).2
  refine pk_loop (fun n y (g : Nat) => wL_holds_93 post J x1 x2 x3 x4 (nI C) x6 (nI x) n (nI g) (nI y) c 1 a1 a2 a3 a4 a5 a6 a7 a8) (fun y g => (g = 1 ∧ ∀ i, i < y → ¬ mm_eq X a3 11 i x) ∨ (g = 0 ∧ ∃ i, i < x ∧ mm_eq X a3 11 i x)) x 0 1 (by omega) (Or.inl ⟨rfl, fun i hi => absurd hi (by omega)⟩) ?_ ?_
  · intro n g hg
    refine pk_le x x (fun _ => ?_) (fun z => absurd z (by omega))
    rcases hg with ⟨rfl, hg⟩ | ⟨rfl, i, hi, ei⟩
    · exact br_f (by decide) (nm_r (nI_1 C) (h1 hg))
    · exact br_t rfl (h0 (fun z => z i hi ei))
  · intro n y g hy hg hw
    refine pk_le x y (fun z => absurd z (by omega)) (fun _ => ?_)
    refine mm_alike0W ok tab hx (by omega) (fun e => br_t rfl (nm_r (nI_1 y) (hw 0 (Or.inr ⟨rfl, y, hy, mm_eq_s e⟩)))) (fun e => br_f (by decide) (nm_r (nI_1 y) (hw g ?_)))
    rcases hg with ⟨rfl, hg⟩ | hg
    · refine Or.inl ⟨rfl, fun i hi ei => ?_⟩
      by_cases z : i = y
      · rw [z] at ei
        exact e (mm_eq_s ei)
      · exact hg i (by omega) ei
    · exact Or.inr hg
theorem mm_h81 {s t : Nat} (ok : mm_ok N X a1 a2) (tab : mm_tab N X a3 a4) (nf : mm_NF N X a3) (hs : s < N 0) (ht : t < N 1) (h : ∀ c' b5 b6 b7 b8, post 1 (c', 1, a1, a2, a3, a4, b5, b6, b7, b8)) : ∃ fu, wL_holds_81 post (nI s) (nI (8 + t)) (nI (N 0)) (nI (mm_kk X a3)) 0 fu 0 0 c 1 a1 a2 a3 a4 a5 a6 a7 a8 := by
  have cl := mm_ok_cl ok
  have h0 := cl.1 0 (by omega)
  refine pk_loop (fun n x (q : Int32 × (Nat → Int32) × (Nat → Int32)) => wL_holds_81 post (nI s) (nI (8 + t)) (nI (N 0)) (nI (mm_kk X a3)) 0 n (nI (mm_cnt (mm_fresh X a3 11) x)) (nI x) q.1 1 a1 a2 a3 a4 q.2.1 q.2.2 a7 a8) (fun _ _ => True) (N 0) 0 (c, a5, a6) (by omega) trivial ?_ ?_
  · rintro n ⟨c', b5, b6⟩ _
    dsimp only
    refine pk_le (N 0) (N 0) (fun _ => ?_) (fun z => absurd z (by omega))
    have hc := mm_cnt_le (mm_fresh X a3 11) (N 0)
    refine mm_classesW ok tab (br_t rfl (br_f (nI_nlt nf.2.2.1 (by omega)) ?_))
    refine mm_classOfW (x := 0) ok tab (by omega) (fun c1 d5 d6 r hr => ?_)
    dsimp only
    rcases hr with ⟨k, k1, k2, rfl⟩ | ⟨k1, _⟩
    · rw [mm_cls_u cl k2 mm_cls_0]
      exact br_t rfl (mm_h269 ok tab nf hs ht h)
    · exact absurd mm_cls_0 (k1 0)
  · rintro n x ⟨c', b5, b6⟩ hx _ hw
    dsimp only
    refine pk_le (N 0) x (fun z => absurd z (by omega)) (fun _ => ?_)
    refine mm_h93 ok tab hx (fun z => mm_h129 ok tab nf hx (fun c1 d5 d6 => ?_)) (fun z => mm_h129 ok tab nf hx (fun c1 d5 d6 => ?_))
    · have := hw (c1, d5, d6) trivial
      dsimp only at this
      rw [mm_cnt_t z] at this
      exact this
    · have := hw (c1, d5, d6) trivial
      dsimp only at this
      rw [mm_cnt_f z] at this
      exact this
theorem mm_holdsW {s t : Nat} (ok : mm_ok N X a1 a2) (hf : f = 0 ∨ (f = 1 ∧ mm_tab N X a3 a4)) (hs : s < N 0) (ht : t < N 1) (h : ∀ c' b4 b5 b6 b7 b8, mm_tab N X a3 b4 → post 1 (c', 1, a1, a2, a3, b4, b5, b6, b7, b8)) : wpL_holds post (c, f, a1, a2, a3, a4, a5, a6, a7, a8) (nI s) (nI (8 + t)) := by
  have h0 := (ok.1 0 (by omega)).2
  unfold wpL_holds
  dsimp only
  refine mm_states (m := 0) ok (by omega) ?_
  refine mm_coreW ok hf (fun b b5 b6 tab nf => ?_)
  have hkk := nf.2.1
  have hkk1 := nf.1
  dsimp only
  refine br_f (nI_nlt (b := 1) h0.1 (by omega)) (br_f (nI_nlt (a := 6) h0.2 (by omega)) (br_f (nI_nlt (b := 1) hkk1 (by omega)) (br_f (nI_nlt hkk (by omega)) ?_)))
  have rn : ∀ {ps : Int32 → Prop}, ps (-1) → wpX_run ps (nI (mm_kk X a3), 1, a1, a2, a3, b, b5, b6, a7, a8) (nI (N 0)) 1 := by
    intro ps hp
    have := mm_runN (m := 0) (s := N 0) (x := 1) (post := ps) (c := nI (mm_kk X a3)) (f := 1) (a3 := a3) (a4 := b) (a5 := b5) (a6 := b6) (a7 := a7) (a8 := a8) ok (by omega) (Nat.le_refl _) (by omega) hp
    rw [show 8 * 0 + N 0 = N 0 by omega] at this
    exact this
  refine rn (br_t rfl ?_)
  refine mm_runB ok (br_t rfl ?_)
  refine mm_rspB ok (br_t rfl ?_)
  exact mm_h81 ok tab nf hs ht (fun c' d5 d6 d7 d8 => h c' b d5 d6 d7 d8 tab)
end
end
section
/-! ===== size, set, weave, copy ===== -/
theorem mm_okI {N : Nat → Nat} {a1 a2 : Nat → Int32} (h1 : ∀ m, m < 2 → a1 m = nI (N m) ∧ 1 ≤ N m ∧ N m ≤ 6) (h2 : ∀ p, mm_th N p → ∀ l, l < 2 → ∃ y, y < N (p / 6) ∧ a2 (2 * p + l) = nI y) : ∃ X, mm_ok N X a1 a2 := by
  refine ⟨fun i => (a2 i).toNatClampNeg, h1, fun p hp l hl => ?_⟩
  obtain ⟨y, y1, y2⟩ := h2 p hp l hl
  have hp1 := hp.1
  have h6 := (h1 (p / 6) (by omega)).2.2
  dsimp only
  rw [y2, nI_clamp (by omega)]
  exact ⟨rfl, y1⟩
theorem mm_put {N X : Nat → Nat} {a1 a2 : Nat → Int32} {m i y : Nat} (ok : mm_ok N X a1 a2) (hi : i < 12) (hy : y < N m) : ∃ X', mm_ok N X' a1 (upd a2 (12 * m + i) (nI y)) := by
  refine mm_okI ok.1 (fun p hp l hl => ?_)
  by_cases e : 2 * p + l = 12 * m + i
  · rw [e, pk_us]
    exact ⟨y, by rw [show p / 6 = m by omega]; exact hy, rfl⟩
  · rw [pk_un e]
    exact ⟨X (2 * p + l), (ok.2 p hp l hl).2, (ok.2 p hp l hl).1⟩
theorem mm_rg {x : Int32} {b : Nat} (hb : b < 2 ^ 31) (h1 : ¬ x < 0) (h2 : x ≤ nI b) : ∃ n, n ≤ b ∧ x = nI n := by
  obtain ⟨j, hj, rfl⟩ := nI_of h1
  refine ⟨j, ?_, rfl⟩
  rcases Nat.lt_or_ge b j with z | z
  · exact absurd h2 (nI_ge z hj)
  · exact z
theorem mm_r16 {x : Int32} (h1 : ¬ x < 1) (h2 : x ≤ 6) : ∃ n, 1 ≤ n ∧ n ≤ 6 ∧ x = nI n := by
  have h0 : ¬ x < 0 := fun z => h1 (Int32.lt_trans z (by decide))
  obtain ⟨n, hn, rfl⟩ := mm_rg (b := 6) (by omega) h0 h2
  refine ⟨n, ?_, hn, rfl⟩
  rcases Nat.eq_zero_or_pos n with z | z
  · rw [z] at h1
    exact absurd (by decide) h1
  · exact z
section
variable {N X : Nat → Nat} {c f p0 p1 p2 : Int32} {a1 a2 a3 a4 a5 a6 a7 a8 : Nat → Int32} {post : Int32 → St1 → Prop}
theorem mm_setW (ok : mm_ok N X a1 a2) (hf : f = 0 ∨ (f = 1 ∧ mm_tab N X a3 a4)) (h : ∀ r c' f' b1 b2 b3 b4 b5 b6 b7 b8 N' X', mm_ok N' X' b1 b2 → (f' = 0 ∨ (f' = 1 ∧ mm_tab N' X' b3 b4)) → post r (c', f', b1, b2, b3, b4, b5, b6, b7, b8)) : wpX_set post (c, f, a1, a2, a3, a4, a5, a6, a7, a8) p0 p1 p2 := by
  have stay : ∀ r, post r (c, f, a1, a2, a3, a4, a5, a6, a7, a8) := fun r => h r _ _ _ _ _ _ _ _ _ _ N X ok hf
  unfold wpX_set
  dsimp only
  refine mm_isMx (br_t rfl (stay _)) (fun m hm em => br_f (by decide) (br_c (fun _ => stay _) (fun h1 => ?_)))
  subst em
  obtain ⟨i, hi, rfl⟩ := nI_of h1
  obtain ⟨g1, g2, g3⟩ := ok.1 m hm
  rw [nI_clamp (show m < 2 ^ 31 by omega), g1, pk_shrN hi _ 1 (by decide)]
  refine ⟨pk_in m 2 hm, pk_lt (i / 2 ^ 1) (N m) (fun z => br_c (fun _ => stay _) (fun h2 => ⟨pk_in m 2 hm, ?_⟩)) (fun _ => stay _)⟩
  obtain ⟨v, hv, rfl⟩ := nI_of h2
  rw [pk_shrN hv _ 2 (by decide)]
  refine pk_lt (v / 2 ^ 2) (N m) (fun y => nm_r (mm_ix12 m i) ?_) (fun _ => stay _)
  have hi12 : i < 12 := by omega
  rw [nI_clamp (show 12 * m + i < 2 ^ 31 by omega)]
  have hin : vp_in (nI (12 * m + i)) 24 := vp_in_nI (by omega) (by omega)
  obtain ⟨X', ok'⟩ := mm_put ok hi12 y
  exact ⟨hin, hin, nm_e ⟨hin, nm_e ⟨hin, nm_e (h _ _ _ _ _ _ _ _ _ _ _ N X' ok' (Or.inl rfl))⟩⟩⟩
theorem mm_sizeW (ok : mm_ok N X a1 a2) (hf : f = 0 ∨ (f = 1 ∧ mm_tab N X a3 a4)) (h : ∀ r c' f' b1 b2 b3 b4 b5 b6 b7 b8 N' X', mm_ok N' X' b1 b2 → (f' = 0 ∨ (f' = 1 ∧ mm_tab N' X' b3 b4)) → post r (c', f', b1, b2, b3, b4, b5, b6, b7, b8)) : wpX_size post (c, f, a1, a2, a3, a4, a5, a6, a7, a8) p0 p1 := by
  have stay : ∀ r, post r (c, f, a1, a2, a3, a4, a5, a6, a7, a8) := fun r => h r _ _ _ _ _ _ _ _ _ _ N X ok hf
  unfold wpX_size
  dsimp only
  refine mm_isMx (br_t rfl (stay _)) (fun m hm em => br_f (by decide) (br_c (fun _ => stay _) (fun h1 => br_c (fun h2 => ?_) (fun _ => stay _))))
  subst em
  obtain ⟨n, n1, n2, rfl⟩ := mm_r16 h1 h2
  rw [nI_clamp (show m < 2 ^ 31 by omega)]
  refine ⟨pk_in m 2 hm, nm_e ⟨pk_in m 2 hm, nm_e (nm_r (e' := nI (12 * m)) (pk_mul 12 m) ?_)⟩⟩
  refine pk_loop (fun fu k (q : (Nat → Int32) × (Nat → Int32)) => wX_size_43 post (nI m) (a1 m) c f fu (nI k) (upd a1 m (nI n)) q.1 q.2 a4 a5 a6 a7 a8) (fun k q => 12 * m ≤ k ∧ (∀ j, 12 * m ≤ j → j < k → q.1 j = 0) ∧ (∀ j, j < 12 * m ∨ 12 * m + 12 ≤ j → q.1 j = a2 j)) (12 * m + 12) (12 * m) (a2, a3) (by omega) ⟨Nat.le_refl _, fun j h1 h2 => absurd h1 (by omega), fun j _ => rfl⟩ ?_ ?_
  · rintro fu ⟨b2, b3⟩ ⟨_, q1, q2⟩
    dsimp only at q1 q2 ⊢
    refine pk_le (12 * m + 12) (12 * m + 12) (fun _ => ?_) (fun z => absurd z (by omega)) (mm_ix12 m 12) rfl
    have : ∃ X', mm_ok (mm_ups N m n) X' (upd a1 m (nI n)) b2 := by
      refine mm_okI (fun i hi => ?_) (fun p hp l hl => ?_)
      · by_cases e : i = m
        · rw [e, pk_us, mm_ups_s]
          exact ⟨rfl, n1, n2⟩
        · rw [pk_un e, mm_ups_n e]
          exact ok.1 i hi
      · by_cases e : p / 6 = m
        · rw [e, mm_ups_s]
          exact ⟨0, by omega, q1 _ (by omega) (by omega)⟩
        · have hp' : mm_th N p := by
            have := hp.2
            rw [mm_ups_n e] at this
            exact ⟨hp.1, this⟩
          rw [mm_ups_n e, q2 _ (by omega)]
          exact ⟨X (2 * p + l), (ok.2 p hp' l hl).2, (ok.2 p hp' l hl).1⟩
    obtain ⟨X', ok'⟩ := this
    exact h _ _ _ _ _ _ _ _ _ _ _ _ X' ok' (Or.inl rfl)
  · rintro fu k ⟨b2, b3⟩ hk ⟨q0, q1, q2⟩ hw
    dsimp only at q1 q2 ⊢
    have hin : vp_in (nI k) 24 := vp_in_nI (by omega) (by omega)
    refine pk_le (12 * m + 12) k (fun z => absurd z (by omega)) (fun _ => ?_) (mm_ix12 m 12) rfl
    rw [nI_clamp (show k < 2 ^ 31 by omega)]
    refine ⟨hin, nm_e ⟨hin, nm_e (nm_r (nI_1 k) (hw (upd b2 k 0, upd b3 k 0) ⟨by omega, fun j j1 j2 => ?_, fun j hj => ?_⟩))⟩⟩
    · dsimp only
      by_cases e : j = k
      · rw [e, pk_us]
      · rw [pk_un e]
        exact q1 j j1 (by omega)
    · dsimp only
      rw [pk_un (show j ≠ k by omega)]
      exact q2 j hj
theorem mm_weaveW (ok : mm_ok N X a1 a2) (hf : f = 0 ∨ (f = 1 ∧ mm_tab N X a3 a4)) (h : ∀ r c' f' b1 b2 b3 b4 b5 b6 b7 b8 N' X', mm_ok N' X' b1 b2 → (f' = 0 ∨ (f' = 1 ∧ mm_tab N' X' b3 b4)) → post r (c', f', b1, b2, b3, b4, b5, b6, b7, b8)) : wpX_weave post (c, f, a1, a2, a3, a4, a5, a6, a7, a8) p0 p1 p2 := by
  have stay : ∀ r, post r (c, f, a1, a2, a3, a4, a5, a6, a7, a8) := fun r => h r _ _ _ _ _ _ _ _ _ _ N X ok hf
  unfold wpX_weave
  dsimp only
  refine mm_isMx (br_t rfl (stay _)) (fun m hm em => br_f (by decide) (br_c (fun _ => stay _) (fun h1 => br_c (fun h2 => br_c (fun _ => stay _) (fun h3 => br_c (fun h4 => ?_) (fun _ => stay _))) (fun _ => stay _))))
  subst em
  obtain ⟨sd, hsd, rfl⟩ := mm_rg (b := 20) (by omega) h1 h2
  obtain ⟨mx, hmx, rfl⟩ := mm_rg (b := 63) (by omega) h3 h4
  obtain ⟨g1, g2, g3⟩ := ok.1 m hm
  rw [nI_clamp (show m < 2 ^ 31 by omega)]
  refine ⟨pk_in m 2 hm, nm_r g1 ?_⟩
  refine pk_loop (fun fu k (q : (Nat → Int32) × (Nat → Int32)) => wX_weave_46 post (nI m) (nI sd) (nI mx) (nI (N m)) c f fu (nI k) a1 q.1 q.2 a4 a5 a6 a7 a8) (fun k q => ∃ X', mm_ok N X' a1 q.1) (2 * N m) 0 (a2, a3) (by omega) ⟨X, ok⟩ ?_ ?_
  · rintro fu ⟨b2, b3⟩ ⟨X', ok'⟩
    exact pk_le (2 * N m) (2 * N m) (fun _ => h _ _ _ _ _ _ _ _ _ _ _ _ X' ok' (Or.inl rfl)) (fun z => absurd z (by omega)) (mm_x2 (N m)) rfl
  · rintro fu k ⟨b2, b3⟩ hk ⟨X', ok'⟩ hw
    refine pk_le (2 * N m) k (fun z => absurd z (by omega)) (fun _ => ?_) (mm_x2 (N m)) rfl
    refine nm_r (pk_shrN (by omega) _ 1 (by decide)) (nm_r (pk_andN (by omega) 1 (by decide)) (br_f (nI_nle (by omega) (by omega)) ?_))
    unfold wX_weave_100
    have hb : k / 2 ^ 1 * (mx / 2 ^ 3) ≤ 5 * 7 := Nat.mul_le_mul (by omega) (by omega)
    rw [pk_shrN (show mx < 2 ^ 31 by omega) _ 3 (by decide), pk_mul, nI_add, nI_add, pk_rem (by omega) (by omega) (by omega), mm_ix12, nI_clamp (show 12 * m + k < 2 ^ 31 by omega)]
    have hin : vp_in (nI (12 * m + k)) 24 := vp_in_nI (by omega) (by omega)
    exact ⟨nI_ne0 (by omega) (by omega), hin, nm_e ⟨hin, nm_e (nm_r (nI_1 k) (hw (_, _) (mm_put ok' (by omega) (Nat.mod_lt _ (by omega)))))⟩⟩
theorem mm_copyW (ok : mm_ok N X a1 a2) (hf : f = 0 ∨ (f = 1 ∧ mm_tab N X a3 a4)) (h : ∀ r c' f' b1 b2 b3 b4 b5 b6 b7 b8 N' X', mm_ok N' X' b1 b2 → (f' = 0 ∨ (f' = 1 ∧ mm_tab N' X' b3 b4)) → post r (c', f', b1, b2, b3, b4, b5, b6, b7, b8)) : wpX_copy post (c, f, a1, a2, a3, a4, a5, a6, a7, a8) p0 p1 := by
  have stay : ∀ r, post r (c, f, a1, a2, a3, a4, a5, a6, a7, a8) := fun r => h r _ _ _ _ _ _ _ _ _ _ N X ok hf
  unfold wpX_copy
  dsimp only
  refine mm_isMx (br_t rfl (stay _)) (fun m hm em => br_f (by decide) (br_c (fun _ => stay _) (fun h1 => br_c (fun h2 => ?_) (fun _ => stay _))))
  subst em
  obtain ⟨by', hby, rfl⟩ := mm_rg (b := 5) (by omega) h1 h2
  refine nm_r (e' := nI (1 - m)) (pk_sub (a := 1) (by omega)) ?_
  obtain ⟨o, ho⟩ : ∃ o, o = 1 - m := ⟨_, rfl⟩
  rw [← ho]
  have ho2 : o < 2 := by omega
  obtain ⟨g1, g2, g3⟩ := ok.1 o ho2
  rw [nI_clamp (show o < 2 ^ 31 by omega), g1]
  refine ⟨pk_in o 2 ho2, br_f (nI_nle (by omega) (by omega)) ⟨pk_in o 2 ho2, ?_⟩⟩
  unfold wX_copy_44
  rw [nI_clamp (show m < 2 ^ 31 by omega)]
  refine ⟨pk_in m 2 hm, nm_e ?_⟩
  obtain ⟨n, hn⟩ : ∃ n, n = N o := ⟨_, rfl⟩
  rw [← hn] at g1 g2 g3 ⊢
  refine pk_loop (fun fu k (q : (Nat → Int32) × (Nat → Int32)) => wX_copy_57 post (nI m) (nI by') (nI o) (nI n) c f fu (nI k) (upd a1 m (nI n)) q.1 q.2 a4 a5 a6 a7 a8) (fun k q => (∀ j, j < 12 * m ∨ 12 * m + 12 ≤ j → q.1 j = a2 j) ∧ (∀ i, i < k → ∃ y, y < n ∧ q.1 (12 * m + (2 * ((i / 2 + by') % n) + i % 2)) = nI y)) (2 * n) 0 (a2, a3) (by omega) ⟨fun j _ => rfl, fun i hi => absurd hi (by omega)⟩ ?_ ?_
  · rintro fu ⟨b2, b3⟩ ⟨q1, q2⟩
    dsimp only at q1 q2 ⊢
    refine pk_le (2 * n) (2 * n) (fun _ => ?_) (fun z => absurd z (by omega)) (mm_x2 n) rfl
    have : ∃ X', mm_ok (mm_ups N m n) X' (upd a1 m (nI n)) b2 := by
      refine mm_okI (fun i hi => ?_) (fun p hp l hl => ?_)
      · by_cases e : i = m
        · rw [e, pk_us, mm_ups_s]
          exact ⟨rfl, g2, g3⟩
        · rw [pk_un e, mm_ups_n e]
          exact ok.1 i hi
      · have hp2 := hp.2
        by_cases e : p / 6 = m
        · rw [e, mm_ups_s] at hp2
          rw [e, mm_ups_s]
          obtain ⟨s, hs⟩ : ∃ s, s = (p % 6 + (n - by' % n)) % n := ⟨_, rfl⟩
          have hs1 : s < n := by rw [hs]; exact Nat.mod_lt _ (by omega)
          have hbn : by' % n < n := Nat.mod_lt _ (by omega)
          have es : (s + by') % n = p % 6 := by
            rw [hs, Nat.add_mod, Nat.mod_mod, ← Nat.add_mod, ← Nat.add_mod_mod, show p % 6 + (n - by' % n) + by' % n = p % 6 + n by omega, Nat.add_mod_right]
            exact Nat.mod_eq_of_lt hp2
          obtain ⟨y, y1, y2⟩ := q2 (2 * s + l) (by omega)
          rw [show (2 * s + l) / 2 = s by omega, es, show (2 * s + l) % 2 = l by omega] at y2
          refine ⟨y, y1, ?_⟩
          rw [← y2]
          congr 1
          omega
        · have hp' : mm_th N p := by
            rw [mm_ups_n e] at hp2
            exact ⟨hp.1, hp2⟩
          rw [mm_ups_n e, q1 _ (by omega)]
          exact ⟨X (2 * p + l), (ok.2 p hp' l hl).2, (ok.2 p hp' l hl).1⟩
    obtain ⟨X', ok'⟩ := this
    exact h _ _ _ _ _ _ _ _ _ _ _ _ X' ok' (Or.inl rfl)
  · rintro fu k ⟨b2, b3⟩ hk ⟨q1, q2⟩ hw
    dsimp only at q1 q2 ⊢
    refine pk_le (2 * n) k (fun z => absurd z (by omega)) (fun _ => ⟨nI_ne0 (by omega) (by omega), ?_⟩) (mm_x2 n) rfl
    have hmod : (k / 2 ^ 1 + by') % n < n := Nat.mod_lt _ (by omega)
    have e6 : (nI k >>> ((1 : Int32) &&& 31)) + nI by' - ((nI k >>> ((1 : Int32) &&& 31)) + nI by') / nI n * nI n = nI ((k / 2 ^ 1 + by') % n) := by
      rw [pk_shrN (by omega) _ 1 (by decide), nI_add, pk_rem (by omega) (by omega) (by omega)]
    have ea : nI k &&& 1 = nI (k % 2 ^ 1) := pk_andN (by omega) 1 (by decide)
    refine nm_r e6 (nm_r (e' := nI (12 * m + (2 * ((k / 2 ^ 1 + by') % n) + k % 2 ^ 1))) ?_ ?_)
    · rw [ea, mm_x2, mm_ix12, nI_add]
      congr 1
      omega
    · have thk : mm_th N (6 * o + k / 2) := ⟨by omega, by rw [show (6 * o + k / 2) % 6 = k / 2 by omega, show (6 * o + k / 2) / 6 = o by omega]; omega⟩
      have ek := ok.2 (6 * o + k / 2) thk (k % 2) (by omega)
      rw [show 2 * (6 * o + k / 2) + k % 2 = 12 * o + k by omega, show (6 * o + k / 2) / 6 = o by omega, ← hn] at ek
      have hto : 12 * m + (2 * ((k / 2 ^ 1 + by') % n) + k % 2 ^ 1) < 24 := by omega
      rw [mm_ix12, nI_clamp (show 12 * o + k < 2 ^ 31 by omega), q1 (12 * o + k) (by omega), ek.1, nI_add, pk_rem (by omega) (by omega) (by omega), nI_clamp (by omega)]
      have hin : vp_in (nI (12 * o + k)) 24 := vp_in_nI (by omega) (by omega)
      have hin2 : vp_in (nI (12 * m + (2 * ((k / 2 ^ 1 + by') % n) + k % 2 ^ 1))) 24 := vp_in_nI (by omega) (by omega)
      refine ⟨hin, nI_ne0 (by omega) (by omega), hin2, nm_e ⟨hin, hin2, nm_e (nm_r (nI_1 k) (hw (upd b2 (12 * m + (2 * ((k / 2 ^ 1 + by') % n) + k % 2 ^ 1)) (nI ((X (12 * o + k) + by') % n)), upd b3 (12 * m + (2 * ((k / 2 ^ 1 + by') % n) + k % 2 ^ 1)) (b3 (12 * o + k))) ⟨fun j hj => ?_, fun i hi => ?_⟩))⟩⟩
      · dsimp only
        rw [pk_un (by omega)]
        exact q1 j hj
      · dsimp only
        by_cases e : 12 * m + (2 * ((i / 2 + by') % n) + i % 2) = 12 * m + (2 * ((k / 2 ^ 1 + by') % n) + k % 2 ^ 1)
        · rw [e, pk_us]
          exact ⟨_, Nat.mod_lt _ (by omega), rfl⟩
        · rw [pk_un e]
          refine q2 i ?_
          rcases Nat.lt_or_ge i k with z | z
          · exact z
          · have eik : i = k := by omega
            rw [eik] at e
            exact absurd rfl e
theorem mm_callW {post : St1 → Prop} {p1 p2 p3 p4 : Int32} (ok : mm_ok N X a1 a2) (hf : f = 0 ∨ (f = 1 ∧ mm_tab N X a3 a4)) (h : ∀ c' f' b1 b2 b3 b4 b5 b6 b7 b8 N' X', mm_ok N' X' b1 b2 → (f' = 0 ∨ (f' = 1 ∧ mm_tab N' X' b3 b4)) → post (c', f', b1, b2, b3, b4, b5, b6, b7, b8)) : wpL_call post (c, f, a1, a2, a3, a4, a5, a6, a7, a8) p1 p2 p3 p4 := by
  unfold wpL_call
  dsimp only
  refine br_c (fun _ => br_c (fun _ => br_c (fun _ => ?_) (fun _ => br_c (fun _ => ?_) (fun _ => br_c (fun _ => ?_) (fun _ => ?_)))) (fun _ => ?_)) (fun _ => ?_)
  · exact mm_weaveW ok hf (fun r c' f' b1 b2 b3 b4 b5 b6 b7 b8 N' X' o g => h c' f' b1 b2 b3 b4 b5 b6 b7 b8 N' X' o g)
  · exact mm_copyW ok hf (fun r c' f' b1 b2 b3 b4 b5 b6 b7 b8 N' X' o g => h c' f' b1 b2 b3 b4 b5 b6 b7 b8 N' X' o g)
  · exact mm_sizeW ok hf (fun r c' f' b1 b2 b3 b4 b5 b6 b7 b8 N' X' o g => h c' f' b1 b2 b3 b4 b5 b6 b7 b8 N' X' o g)
  · exact mm_setW ok hf (fun r c' f' b1 b2 b3 b4 b5 b6 b7 b8 N' X' o g => h c' f' b1 b2 b3 b4 b5 b6 b7 b8 N' X' o g)
  · exact mm_setW ok hf (fun r c' f' b1 b2 b3 b4 b5 b6 b7 b8 N' X' o g => h c' f' b1 b2 b3 b4 b5 b6 b7 b8 N' X' o g)
  · exact mm_sizeW ok hf (fun r c' f' b1 b2 b3 b4 b5 b6 b7 b8 N' X' o g => h c' f' b1 b2 b3 b4 b5 b6 b7 b8 N' X' o g)
end
end
section
/-! ===== the law ===== -/
theorem mm_law10 {L : Nat} {xs : Nat → Int32} {kc ks : Nat} {N X : Nat → Nat} {c f : Int32} {a1 a2 a3 a4 a5 a6 a7 a8 : Nat → Int32} (hL : L ≤ 260) (ok : mm_ok N X a1 a2) (hf : f = 0 ∨ (f = 1 ∧ mm_tab N X a3 a4)) : ∃ fu, wL_law_10 (fun r => r = 1) L xs kc ks fu 0 c f a1 a2 a3 a4 a5 a6 a7 a8 := by
  refine pk_loop (fun n i (q : St1) => wL_law_10 (fun r => r = 1) L xs kc ks n (nI (4 * i)) q.1 q.2.1 q.2.2.1 q.2.2.2.1 q.2.2.2.2.1 q.2.2.2.2.2.1 q.2.2.2.2.2.2.1 q.2.2.2.2.2.2.2.1 q.2.2.2.2.2.2.2.2.1 q.2.2.2.2.2.2.2.2.2) (fun _ q => ∃ N X, mm_ok N X q.2.2.1 q.2.2.2.1 ∧ (q.2.1 = 0 ∨ (q.2.1 = 1 ∧ mm_tab N X q.2.2.2.2.1 q.2.2.2.2.2.1))) (L / 4) 0 (c, f, a1, a2, a3, a4, a5, a6, a7, a8) (by omega) ⟨N, X, ok, hf⟩ ?_ ?_
  · rintro n ⟨c, f, a1, a2, a3, a4, a5, a6, a7, a8⟩ ⟨N, X, ok, hf⟩
    dsimp only at ok hf ⊢
    refine pk_le L (4 * (L / 4) + 3) (fun _ => ?_) (fun z => absurd z (by omega)) rfl (nI_add _ 3)
    have h0 := (ok.1 0 (by omega)).2
    have h1 := (ok.1 1 (by omega)).2
    exact mm_holdsW (s := 0) (t := 0) ok hf (by omega) (by omega) (fun _ _ _ _ _ _ _ => rfl)
  · rintro n i ⟨c, f, a1, a2, a3, a4, a5, a6, a7, a8⟩ hi ⟨N, X, ok, hf⟩ hw
    dsimp only at ok hf ⊢
    refine pk_le L (4 * i + 3) (fun z => absurd z (by omega)) (fun _ => ?_) rfl (nI_add _ 3)
    have hin : vp_in (nI (4 * i)) L := vp_in_nI (by omega) (by omega)
    refine ⟨hin, pk_in (4 * i + 1) L (by omega) (nI_add _ 1), pk_in (4 * i + 2) L (by omega) (nI_add _ 2), pk_in (4 * i + 3) L (by omega) (nI_add _ 3), ?_⟩
    refine mm_callW ok hf (fun c' f' b1 b2 b3 b4 b5 b6 b7 b8 N' X' ok' hf' => ?_)
    refine mm_states (m := 0) ok' (by omega) ?_
    refine mm_states (m := 1) ok' (by omega) ?_
    have h0 := (ok'.1 0 (by omega)).2
    have h1 := (ok'.1 1 (by omega)).2
    have e4 : nI (4 * i) + 4 = nI (4 * (i + 1)) := nI_add _ 4
    refine ⟨hin, br_c (fun _ => ⟨hin, nI_ne0 (by omega) (by omega), hin, nI_ne0 (by omega) (by omega), ?_⟩) (fun _ => nm_r e4 (hw (c', f', b1, b2, b3, b4, b5, b6, b7, b8) ⟨N', X', ok', hf'⟩))⟩
    obtain ⟨j, hj, ej⟩ := pk_andE (xs (nI (4 * i)).toNatClampNeg >>> ((7 : Int32) &&& 31)) (m := 7) 3 (by decide)
    obtain ⟨k, hk, ek⟩ := pk_andE (xs (nI (4 * i)).toNatClampNeg >>> ((10 : Int32) &&& 31)) (m := 7) 3 (by decide)
    rw [ej, ek, pk_rem (by omega) (by omega) (by omega), pk_rem (by omega) (by omega) (by omega), show (8 : Int32) = nI 8 from rfl, nI_add]
    refine mm_holdsW ok' hf' (Nat.mod_lt _ (by omega)) (Nat.mod_lt _ (by omega)) (fun d e4' e5 e6 e7 e8 tab => ?_)
    exact br_f (by decide) (nm_r e4 (hw (d, 1, b1, b2, b3, e4', e5, e6, e7, e8) ⟨N', X', ok', Or.inr ⟨rfl, tab⟩⟩))
theorem mm_ok0 : mm_ok (fun _ => 1) (fun _ => 0) (upd (upd (fun _ => 0) 0 1) 1 1) (fun _ => 0) := by
  refine ⟨fun m hm => ⟨?_, (by decide : 1 ≤ 1), (by decide : 1 ≤ 6)⟩, fun p _ l _ => ⟨rfl, (by decide : 0 < 1)⟩⟩
  rcases (show m = 0 ∨ m = 1 by omega) with e | e
  · rw [e]; rfl
  · rw [e]; rfl
theorem i_vc (xs : Nat → Int32) (L : Nat) (hL : L ≤ 260) : wpL_law (fun r => r = 1) L xs := by
  refine ⟨8, 346, by omega, by omega, ?_⟩
  refine ⟨by omega, by omega, by omega, by omega, by omega, by omega, by omega, by omega, by omega, by omega, by omega, by omega, by omega, by omega, by omega, by omega, nm_e (nm_e ?_)⟩
  exact mm_law10 hL mm_ok0 (Or.inl rfl)
end
