section
section BM1
/-! the mathematics of bounds, 1: edges, counting, sweeps -/
/-- a bound carried along an edge of weight w -/
def bm_ex (x w : Int) : Int := if 100000 ≤ x then 100000 else if 100000 ≤ x + w then 100000 else x + w
theorem bm_ex_top {x w : Int} (h : 100000 ≤ x) : bm_ex x w = 100000 := if_pos h
theorem bm_ex_le (x w : Int) : bm_ex x w ≤ 100000 := by
  unfold bm_ex
  split
  · omega
  · split <;> omega
theorem bm_ex_eq {x w : Int} (h : x < 100000) (h2 : x + w < 100000) : bm_ex x w = x + w := by
  unfold bm_ex
  rw [if_neg (by omega), if_neg (by omega)]
theorem bm_ex_add {x w : Int} (h : x < 100000) : bm_ex x w ≤ x + w := by
  unfold bm_ex
  rw [if_neg (by omega)]
  split <;> omega
theorem bm_ex_mono {x y : Int} (w : Int) (h : x ≤ y) : bm_ex x w ≤ bm_ex y w := by
  by_cases h1 : 100000 ≤ y
  · rw [bm_ex_top h1]; exact bm_ex_le x w
  · unfold bm_ex
    rw [if_neg h1, if_neg (by omega : ¬ 100000 ≤ x)]
    split <;> split <;> omega
theorem bm_ex_fin {x w : Int} (h : bm_ex x w < 100000) : x < 100000 ∧ bm_ex x w = x + w := by
  by_cases h1 : 100000 ≤ x
  · rw [bm_ex_top h1] at h; omega
  · by_cases h2 : 100000 ≤ x + w
    · unfold bm_ex at h
      rw [if_neg h1, if_pos h2] at h; omega
    · exact ⟨by omega, bm_ex_eq (by omega) (by omega)⟩
theorem bm_ex_0 {x : Int} (h : x ≤ 100000) : bm_ex x 0 = x := by
  unfold bm_ex
  split
  · omega
  · split <;> omega
/-! counting -/
noncomputable def bm_one (P : Prop) : Nat := @ite Nat P (Classical.propDecidable P) 1 0
theorem bm_one_t {P : Prop} (h : P) : bm_one P = 1 := by unfold bm_one; exact if_pos h
theorem bm_one_f {P : Prop} (h : ¬ P) : bm_one P = 0 := by unfold bm_one; exact if_neg h
theorem bm_one_le (P : Prop) : bm_one P ≤ 1 := by
  by_cases h : P
  · rw [bm_one_t h]; omega
  · rw [bm_one_f h]; omega
theorem bm_one_mono {P Q : Prop} (h : P → Q) : bm_one P ≤ bm_one Q := by
  by_cases hp : P
  · rw [bm_one_t hp, bm_one_t (h hp)]; omega
  · rw [bm_one_f hp]; omega
noncomputable def bm_cnt (Q : Nat → Prop) : Nat → Nat
  | 0 => 0
  | k + 1 => bm_cnt Q k + bm_one (Q k)
theorem bm_cnt_s (Q : Nat → Prop) (k : Nat) : bm_cnt Q (k + 1) = bm_cnt Q k + bm_one (Q k) := rfl
theorem bm_cnt_le (Q : Nat → Prop) (k : Nat) : bm_cnt Q k ≤ k := by
  induction k with
  | zero => exact Nat.le_refl 0
  | succ k ih => rw [bm_cnt_s]; have := bm_one_le (Q k); omega
theorem bm_cnt_mono {Q R : Nat → Prop} (k : Nat) (h : ∀ u, u < k → Q u → R u) : bm_cnt Q k ≤ bm_cnt R k := by
  induction k with
  | zero => exact Nat.le_refl 0
  | succ k ih =>
    rw [bm_cnt_s, bm_cnt_s]
    have h1 := ih (fun u hu => h u (by omega))
    have h2 := bm_one_mono (h k (by omega))
    omega
theorem bm_cnt_lt {Q R : Nat → Prop} (k : Nat) (h : ∀ u, u < k → Q u → R u) (u : Nat) (hu : u < k) (h1 : ¬ Q u) (h2 : R u) : bm_cnt Q k < bm_cnt R k := by
  induction k with
  | zero => omega
  | succ k ih =>
    rw [bm_cnt_s, bm_cnt_s]
    by_cases e : u = k
    · subst e
      have h3 := bm_cnt_mono u (fun v hv => h v (by omega))
      rw [bm_one_f h1, bm_one_t h2]; omega
    · have h3 := ih (fun v hv => h v (by omega)) (by omega)
      have h4 := bm_one_mono (h k (by omega))
      omega
theorem bm_cnt_full {Q : Nat → Prop} (k : Nat) (h : k ≤ bm_cnt Q k) : ∀ u, u < k → Q u := by
  induction k with
  | zero => intro u hu; omega
  | succ k ih =>
    rw [bm_cnt_s] at h
    have h1 := bm_cnt_le Q k
    have h2 := bm_one_le (Q k)
    intro u hu
    by_cases e : u = k
    · subst e
      apply Classical.byContradiction
      intro hn
      rw [bm_one_f hn] at h; omega
    · exact ih (by omega) u (by omega)
theorem bm_grow (n : Nat) (P : Nat → Nat → Prop) (mono : ∀ j u, u < n → P j u → P (j + 1) u)
    (step : ∀ j, (∃ u, u < n ∧ ¬ P j u) → ∃ u, u < n ∧ ¬ P j u ∧ P (j + 1) u) : ∀ u, u < n → P n u := by
  have key : ∀ j, j ≤ n → j ≤ bm_cnt (P j) n := by
    intro j
    induction j with
    | zero => intro _; omega
    | succ j ih =>
      intro hj
      have h1 := ih (by omega)
      by_cases hx : ∃ u, u < n ∧ ¬ P j u
      · obtain ⟨u, hu, h2, h3⟩ := step j hx
        have h4 := bm_cnt_lt (Q := P j) (R := P (j + 1)) n (mono j) u hu h2 h3
        omega
      · have hall : ∀ u, u < n → P (j + 1) u := fun u hu => mono j u hu (Classical.byContradiction fun hn => hx ⟨u, hu, hn⟩)
        have h5 : ∀ m, m ≤ n → m ≤ bm_cnt (P (j + 1)) m := by
          intro m
          induction m with
          | zero => intro _; omega
          | succ m ihm =>
            intro hm
            rw [bm_cnt_s, bm_one_t (hall m (by omega))]
            have := ihm (by omega)
            omega
        have := h5 n (Nat.le_refl n)
        omega
  exact bm_cnt_full n (key n (Nat.le_refl n))
/-! sums -/
def bm_sum (f : Nat → Nat) : Nat → Nat
  | 0 => 0
  | k + 1 => bm_sum f k + f k
theorem bm_sum_s (f : Nat → Nat) (k : Nat) : bm_sum f (k + 1) = bm_sum f k + f k := rfl
theorem bm_sum_mono {f g : Nat → Nat} (k : Nat) (h : ∀ u, u < k → f u ≤ g u) : bm_sum f k ≤ bm_sum g k := by
  induction k with
  | zero => exact Nat.le_refl 0
  | succ k ih =>
    rw [bm_sum_s, bm_sum_s]
    have h1 := ih (fun u hu => h u (by omega))
    have h2 := h k (by omega)
    omega
theorem bm_sum_lt {f g : Nat → Nat} (k : Nat) (h : ∀ u, u < k → f u ≤ g u) (u : Nat) (hu : u < k) (h1 : f u < g u) : bm_sum f k < bm_sum g k := by
  induction k with
  | zero => omega
  | succ k ih =>
    rw [bm_sum_s, bm_sum_s]
    by_cases e : u = k
    · subst e
      have h3 := bm_sum_mono u (fun v hv => h v (by omega))
      omega
    · have h3 := ih (fun v hv => h v (by omega)) (by omega)
      have h4 := h k (by omega)
      omega
theorem bm_sum_le {f : Nat → Nat} (c k : Nat) (h : ∀ u, u < k → f u ≤ c) : bm_sum f k ≤ c * k := by
  induction k with
  | zero => exact Nat.le_refl 0
  | succ k ih =>
    rw [bm_sum_s, Nat.mul_succ]
    have h1 := ih (fun u hu => h u (by omega))
    have h2 := h k (by omega)
    omega
theorem bm_max (n : Nat) (P : Nat → Prop) (d : Nat → Int) (h : ∃ u, u < n ∧ P u) : ∃ u, u < n ∧ P u ∧ ∀ v, v < n → P v → d v ≤ d u := by
  induction n with
  | zero => obtain ⟨u, hu, _⟩ := h; omega
  | succ k ih =>
    by_cases hk : ∃ u, u < k ∧ P u
    · obtain ⟨u, hu, hp, hm⟩ := ih hk
      by_cases hq : P k ∧ d u < d k
      · refine ⟨k, by omega, hq.1, fun v hv hpv => ?_⟩
        by_cases e : v = k
        · subst e; omega
        · have := hm v (by omega) hpv; omega
      · refine ⟨u, by omega, hp, fun v hv hpv => ?_⟩
        by_cases e : v = k
        · subst e
          by_cases hd : d u < d v
          · exact absurd ⟨hpv, hd⟩ hq
          · omega
        · exact hm v (by omega) hpv
    · obtain ⟨u, hu, hp⟩ := h
      have e : u = k := by
        by_cases hu2 : u < k
        · exact absurd ⟨u, hu2, hp⟩ hk
        · omega
      subst e
      refine ⟨u, by omega, hp, fun v hv hpv => ?_⟩
      by_cases hv2 : v < u
      · exact absurd ⟨v, hv2, hpv⟩ hk
      · have e2 : v = u := by omega
        subst e2; omega
/-! edges and evaluation -/
def bm_EV (n : Nat) (E : Nat → Nat → Int → Prop) (ev : (Nat → Int) → Nat → Int) : Prop :=
  (∀ b u v w, u < n → E u v w → ev b u ≤ bm_ex (b v) w) ∧ (∀ b u, u < n → ∃ v w, E u v w ∧ ev b u = bm_ex (b v) w)
def bm_W (n : Nat) (E : Nat → Nat → Int → Prop) : Prop :=
  ∀ u v w, u < n → E u v w → (v < n ∧ -4 ≤ w ∧ w ≤ 4) ∨ (v = 32 ∧ -15 ≤ w ∧ w ≤ 15) ∨ v = 33
def bm_B (n : Nat) (b : Nat → Int) : Prop := b 32 = 0 ∧ b 33 = 100000 ∧ ∀ u, u < n → b u ≤ 100000
/-- every set of cells that is closed under following some edge along which m doesn't rise is empty: all cycles are positive -/
def bm_PC (n : Nat) (E : Nat → Nat → Int → Prop) : Prop :=
  ∀ (m : Nat → Int) (S : Nat → Prop), (∀ u, u < n → S u → ∃ v w, E u v w ∧ v < n ∧ S v ∧ m v + w ≤ m u) → ∀ u, u < n → ¬ S u
variable {n : Nat} {E : Nat → Nat → Int → Prop} {ev : (Nat → Int) → Nat → Int}
theorem bm_mono (hE : bm_EV n E ev) (hW : bm_W n E) {b c : Nat → Int} (hb : bm_B n b) (hc : bm_B n c) (h : ∀ u, u < n → b u ≤ c u) : ∀ u, u < n → ev b u ≤ ev c u := by
  intro u hu
  obtain ⟨v, w, he, hev⟩ := hE.2 c u hu
  have h1 := hE.1 b u v w hu he
  rw [hev]
  refine Int.le_trans h1 (bm_ex_mono w ?_)
  rcases hW u v w hu he with ⟨hv, _, _⟩ | ⟨rfl, _, _⟩ | rfl
  · exact h v hv
  · rw [hb.1, hc.1]; exact Int.le_refl _
  · rw [hb.2.1, hc.2.1]; exact Int.le_refl _
/-- M1: the range of a solution -/
theorem bm_rng (hn : n ≤ 32) (hE : bm_EV n E ev) (hW : bm_W n E) (hP : bm_PC n E) {b : Nat → Int} (hb : bm_B n b) (sol : ∀ u, u < n → b u = ev b u) :
    ∀ u, u < n → b u = 100000 ∨ (-143 ≤ b u ∧ b u ≤ 143) := by
  have key := bm_grow n (fun j u => 100000 ≤ b u ∨ (-(15 + 4 * (j : Int)) ≤ b u ∧ b u ≤ 15 + 4 * (j : Int)))
    (fun j u _ h => by
      (try dsimp only at h ⊢)
      rcases h with h | h
      · exact Or.inl h
      · right; omega)
    (fun j hx => by
      apply Classical.byContradiction
      intro hno
      obtain ⟨u0, hu0, hn0⟩ := hx
      refine hP b (fun u => ¬ (100000 ≤ b u ∨ (-(15 + 4 * (j : Int)) ≤ b u ∧ b u ≤ 15 + 4 * (j : Int)))) ?_ u0 hu0 hn0
      intro u hu hS
      (try dsimp only at hS)
      obtain ⟨v, w, he, hev⟩ := hE.2 b u hu
      have hf : bm_ex (b v) w < 100000 := by rw [← hev, ← sol u hu]; omega
      obtain ⟨hv1, hv2⟩ := bm_ex_fin hf
      have hbu : b u = b v + w := by rw [sol u hu, hev, hv2]
      rcases hW u v w hu he with ⟨hv, hw1, hw2⟩ | ⟨rfl, hw1, hw2⟩ | rfl
      · refine ⟨v, w, he, hv, ?_, by omega⟩
        intro hPv
        refine hno ⟨u, hu, hS, ?_⟩
        (try dsimp only)
        rcases hPv with hPv | hPv
        · omega
        · right; omega
      · exfalso
        apply hS
        right
        have := hb.1
        omega
      · exfalso
        have := hb.2.1
        omega)
  intro u hu
  have h1 := key u hu
  have h2 := hb.2.2 u hu
  (try dsimp only at h1)
  rcases h1 with h1 | h1
  · left; omega
  · right; omega
/-- M2: what is at most its own evaluation lies below what is at least its own -/
theorem bm_cmp (hE : bm_EV n E ev) (hW : bm_W n E) (hP : bm_PC n E) {b m : Nat → Int} (hb : bm_B n b) (hm0 : m 32 = 0) (hm1 : m 33 = 100000)
    (h1 : ∀ u, u < n → b u ≤ ev b u) (h2 : ∀ u, u < n → ev m u ≤ m u) : ∀ u, u < n → b u ≤ m u := by
  intro u0 hu0
  apply Classical.byContradiction
  intro hn0
  refine hP m (fun u => m u < b u) ?_ u0 hu0 (by (try dsimp only); omega)
  intro u hu hS
  (try dsimp only at hS)
  obtain ⟨v, w, he, hev⟩ := hE.2 m u hu
  have h3 := h2 u hu
  have h4 := hb.2.2 u hu
  rw [hev] at h3
  have hf : bm_ex (m v) w < 100000 := by omega
  obtain ⟨hv1, hv2⟩ := bm_ex_fin hf
  have h5 := h1 u hu
  have h6 := hE.1 b u v w hu he
  rcases hW u v w hu he with ⟨hv, hw1, hw2⟩ | ⟨rfl, hw1, hw2⟩ | rfl
  · refine ⟨v, w, he, hv, ?_, by omega⟩
    (try dsimp only)
    apply Classical.byContradiction
    intro hnv
    have h7 := bm_ex_add (x := b v) (w := w) (by omega)
    omega
  · exfalso
    have := hb.1
    have h7 := bm_ex_add (x := b 32) (w := w) (by omega)
    omega
  · exfalso
    omega
/-! sweeps -/
def bm_up (f : Nat → Int) (k : Nat) (x : Int) : Nat → Int := fun j => if j = k then x else f j
theorem bm_up_s {f : Nat → Int} {k : Nat} {x : Int} : bm_up f k x k = x := if_pos rfl
theorem bm_up_n {f : Nat → Int} {k j : Nat} {x : Int} (h : j ≠ k) : bm_up f k x j = f j := if_neg h
def bm_st (ev : (Nat → Int) → Nat → Int) (k : Nat) (b : Nat → Int) : Nat → Int := if ev b k < b k then bm_up b k (ev b k) else b
def bm_sw (ev : (Nat → Int) → Nat → Int) : Nat → (Nat → Int) → (Nat → Int)
  | 0, b => b
  | k + 1, b => bm_st ev k (bm_sw ev k b)
def bm_ch (ev : (Nat → Int) → Nat → Int) : Nat → (Nat → Int) → Int32
  | 0, _ => 0
  | k + 1, b => if ev (bm_sw ev k b) k < bm_sw ev k b k then 1 else bm_ch ev k b
def bm_it (ev : (Nat → Int) → Nat → Int) (n : Nat) : Nat → (Nat → Int) → (Nat → Int)
  | 0, b => b
  | r + 1, b => bm_sw ev n (bm_it ev n r b)
theorem bm_st_n {k u : Nat} {b : Nat → Int} (h : u ≠ k) : bm_st ev k b u = b u := by
  unfold bm_st
  split
  · exact bm_up_n h
  · rfl
theorem bm_st_le (k : Nat) (b : Nat → Int) (u : Nat) : bm_st ev k b u ≤ b u := by
  unfold bm_st
  split
  · by_cases e : u = k
    · subst e; rw [bm_up_s]; omega
    · rw [bm_up_n e]; exact Int.le_refl _
  · exact Int.le_refl _
theorem bm_st_k (k : Nat) (b : Nat → Int) : bm_st ev k b k ≤ ev b k := by
  unfold bm_st
  split
  · rw [bm_up_s]; exact Int.le_refl _
  · omega
theorem bm_st_or (k : Nat) (b : Nat → Int) : bm_st ev k b k = ev b k ∨ bm_st ev k b k = b k := by
  unfold bm_st
  split
  · rw [bm_up_s]; exact Or.inl rfl
  · exact Or.inr rfl
theorem bm_st_B (hn : n ≤ 32) {k : Nat} (hk : k < n) {b : Nat → Int} (hb : bm_B n b) : bm_B n (bm_st ev k b) :=
  ⟨by rw [bm_st_n (by omega)]; exact hb.1, by rw [bm_st_n (by omega)]; exact hb.2.1, fun u hu => Int.le_trans (bm_st_le k b u) (hb.2.2 u hu)⟩
theorem bm_st_lo (hn : n ≤ 32) (hE : bm_EV n E ev) (hW : bm_W n E) {k : Nat} (hk : k < n) {b l : Nat → Int} (hb : bm_B n b) (hl : bm_B n l)
    (hp : ∀ u, u < n → l u ≤ ev l u) (h : ∀ u, u < n → l u ≤ b u) : ∀ u, u < n → l u ≤ bm_st ev k b u := by
  intro u hu
  by_cases e : u = k
  · subst e
    have h1 := bm_mono hE hW hl hb h u hu
    have h2 := hp u hu
    have h3 := h u hu
    rcases bm_st_or (ev := ev) u b with h4 | h4 <;> omega
  · rw [bm_st_n e]; exact h u hu
theorem bm_st_pre (hn : n ≤ 32) (hE : bm_EV n E ev) (hW : bm_W n E) {k : Nat} (hk : k < n) {b : Nat → Int} (hb : bm_B n b)
    (hp : ∀ u, u < n → ev b u ≤ b u) : ∀ u, u < n → ev (bm_st ev k b) u ≤ bm_st ev k b u := by
  intro u hu
  have h1 := bm_mono hE hW (bm_st_B (ev := ev) hn hk hb) hb (fun v _ => bm_st_le k b v) u hu
  by_cases e : u = k
  · subst e
    have h2 := hp u hu
    rcases bm_st_or (ev := ev) u b with h4 | h4 <;> omega
  · rw [bm_st_n e]
    have h2 := hp u hu
    omega
theorem bm_sw_s (k : Nat) (b : Nat → Int) : bm_sw ev (k + 1) b = bm_st ev k (bm_sw ev k b) := rfl
theorem bm_sw_B (hn : n ≤ 32) {b : Nat → Int} (hb : bm_B n b) (k : Nat) (hk : k ≤ n) : bm_B n (bm_sw ev k b) := by
  induction k with
  | zero => exact hb
  | succ k ih => exact bm_st_B hn (by omega) (ih (by omega))
theorem bm_sw_le (b : Nat → Int) (k u : Nat) : bm_sw ev k b u ≤ b u := by
  induction k with
  | zero => exact Int.le_refl _
  | succ k ih => exact Int.le_trans (bm_st_le k _ u) ih
theorem bm_sw_ge (b : Nat → Int) (k u : Nat) (h : k ≤ u) : bm_sw ev k b u = b u := by
  induction k with
  | zero => rfl
  | succ k ih => rw [bm_sw_s, bm_st_n (by omega)]; exact ih (by omega)
theorem bm_sw_ev (hn : n ≤ 32) (hE : bm_EV n E ev) (hW : bm_W n E) {b : Nat → Int} (hb : bm_B n b) (k : Nat) (hk : k ≤ n) : ∀ u, u < k → bm_sw ev k b u ≤ ev b u := by
  induction k with
  | zero => intro u hu; omega
  | succ k ih =>
    intro u hu
    rw [bm_sw_s]
    have h1 := bm_mono hE hW (bm_sw_B (ev := ev) hn hb k (by omega)) hb (fun v _ => bm_sw_le b k v) u (by omega)
    by_cases e : u = k
    · subst e
      exact Int.le_trans (bm_st_k u _) h1
    · rw [bm_st_n e]; exact ih (by omega) u (by omega)
theorem bm_sw_lo (hn : n ≤ 32) (hE : bm_EV n E ev) (hW : bm_W n E) {b l : Nat → Int} (hb : bm_B n b) (hl : bm_B n l)
    (hp : ∀ u, u < n → l u ≤ ev l u) (h : ∀ u, u < n → l u ≤ b u) (k : Nat) (hk : k ≤ n) : ∀ u, u < n → l u ≤ bm_sw ev k b u := by
  induction k with
  | zero => exact h
  | succ k ih => exact bm_st_lo hn hE hW (by omega) (bm_sw_B hn hb k (by omega)) hl hp (ih (by omega))
theorem bm_sw_pre (hn : n ≤ 32) (hE : bm_EV n E ev) (hW : bm_W n E) {b : Nat → Int} (hb : bm_B n b)
    (hp : ∀ u, u < n → ev b u ≤ b u) (k : Nat) (hk : k ≤ n) : ∀ u, u < n → ev (bm_sw ev k b) u ≤ bm_sw ev k b u := by
  induction k with
  | zero => exact hp
  | succ k ih => exact bm_st_pre hn hE hW (by omega) (bm_sw_B hn hb k (by omega)) (ih (by omega))
theorem bm_ch_01 (b : Nat → Int) (k : Nat) : bm_ch ev k b = 0 ∨ bm_ch ev k b = 1 := by
  induction k with
  | zero => exact Or.inl rfl
  | succ k ih =>
    unfold bm_ch
    split
    · exact Or.inr rfl
    · exact ih
theorem bm_ch_0 (b : Nat → Int) (k : Nat) (h : bm_ch ev k b = 0) : bm_sw ev k b = b := by
  induction k with
  | zero => rfl
  | succ k ih =>
    unfold bm_ch at h
    by_cases c : ev (bm_sw ev k b) k < bm_sw ev k b k
    · rw [if_pos c] at h; exact absurd h (by decide)
    · rw [if_neg c] at h
      rw [bm_sw_s]
      unfold bm_st
      rw [if_neg c]
      exact ih h
theorem bm_it_B (hn : n ≤ 32) {b : Nat → Int} (hb : bm_B n b) (r : Nat) : bm_B n (bm_it ev n r b) := by
  induction r with
  | zero => exact hb
  | succ r ih => exact bm_sw_B hn ih n (Nat.le_refl n)
theorem bm_it_lo (hn : n ≤ 32) (hE : bm_EV n E ev) (hW : bm_W n E) {b l : Nat → Int} (hb : bm_B n b) (hl : bm_B n l)
    (hp : ∀ u, u < n → l u ≤ ev l u) (h : ∀ u, u < n → l u ≤ b u) (r : Nat) : ∀ u, u < n → l u ≤ bm_it ev n r b u := by
  induction r with
  | zero => exact h
  | succ r ih => exact bm_sw_lo hn hE hW (bm_it_B hn hb r) hl hp ih n (Nat.le_refl n)
theorem bm_it_pre (hn : n ≤ 32) (hE : bm_EV n E ev) (hW : bm_W n E) {b : Nat → Int} (hb : bm_B n b)
    (hp : ∀ u, u < n → ev b u ≤ b u) (r : Nat) : ∀ u, u < n → ev (bm_it ev n r b) u ≤ bm_it ev n r b u := by
  induction r with
  | zero => exact hp
  | succ r ih => exact bm_sw_pre hn hE hW (bm_it_B hn hb r) ih n (Nat.le_refl n)
/-- M4: there is a solution above what is at most its own evaluation -/
theorem bm_exists (hn : n ≤ 32) (hE : bm_EV n E ev) (hW : bm_W n E) {l : Nat → Int} (hl : bm_B n l) (hp : ∀ u, u < n → l u ≤ ev l u) :
    ∀ (m : Nat) (b : Nat → Int), bm_B n b → (∀ u, u < n → l u ≤ b u) → (∀ u, u < n → ev b u ≤ b u) → bm_sum (fun u => (b u - l u).toNat) n ≤ m →
      ∃ c, bm_B n c ∧ (∀ u, u < n → c u = ev c u) ∧ ∀ u, u < n → l u ≤ c u := by
  intro m
  induction m with
  | zero =>
    intro b hb hlb hpre hm
    have hB2 := bm_sw_B (ev := ev) hn hb n (Nat.le_refl n)
    have hlo := bm_sw_lo hn hE hW hb hl hp hlb n (Nat.le_refl n)
    by_cases hx : ∃ u, u < n ∧ bm_sw ev n b u < b u
    · exfalso
      obtain ⟨u, hu, hlt⟩ := hx
      have := bm_sum_lt (f := fun u => (bm_sw ev n b u - l u).toNat) (g := fun u => (b u - l u).toNat) n
        (fun v hv => by have := bm_sw_le (ev := ev) b n v; (try dsimp only); omega) u hu (by have := hlo u hu; (try dsimp only); omega)
      omega
    · refine ⟨b, hb, fun u hu => ?_, hlb⟩
      have h1 := hpre u hu
      have h2 := bm_sw_ev hn hE hW hb n (Nat.le_refl n) u hu
      have h3 : ¬ bm_sw ev n b u < b u := fun h => hx ⟨u, hu, h⟩
      omega
  | succ m ih =>
    intro b hb hlb hpre hm
    have hB2 := bm_sw_B (ev := ev) hn hb n (Nat.le_refl n)
    have hlo := bm_sw_lo hn hE hW hb hl hp hlb n (Nat.le_refl n)
    by_cases hx : ∃ u, u < n ∧ bm_sw ev n b u < b u
    · obtain ⟨u, hu, hlt⟩ := hx
      have := bm_sum_lt (f := fun u => (bm_sw ev n b u - l u).toNat) (g := fun u => (b u - l u).toNat) n
        (fun v hv => by have := bm_sw_le (ev := ev) b n v; (try dsimp only); omega) u hu (by have := hlo u hu; (try dsimp only); omega)
      exact ih (bm_sw ev n b) hB2 hlo (bm_sw_pre hn hE hW hb hpre n (Nat.le_refl n)) (by omega)
    · refine ⟨b, hb, fun u hu => ?_, hlb⟩
      have h1 := hpre u hu
      have h2 := bm_sw_ev hn hE hW hb n (Nat.le_refl n) u hu
      have h3 : ¬ bm_sw ev n b u < b u := fun h => hx ⟨u, hu, h⟩
      omega
/-- M3, M4: settling -/
theorem bm_settle (hn : n ≤ 32) (hE : bm_EV n E ev) (hW : bm_W n E) (hP : bm_PC n E) {l b : Nat → Int} (hl : bm_B n l) (hp : ∀ u, u < n → l u ≤ ev l u)
    (hb : bm_B n b) (hi : ∀ u, u < n → b u = 100000) :
    ∃ c, bm_B n c ∧ (∀ u, u < n → c u = ev c u) ∧ (∀ u, u < n → l u ≤ c u) ∧
      (∀ r, bm_ch ev n (bm_it ev n r b) = 0 → ∀ u, u < n → bm_it ev n (r + 1) b u = c u) ∧ (∀ r, n ≤ r → ∀ u, u < n → bm_it ev n r b u = c u) := by
  have hpre : ∀ u, u < n → ev b u ≤ b u := fun u hu => by
    obtain ⟨v, w, _, hev⟩ := hE.2 b u hu
    rw [hev, hi u hu]; exact bm_ex_le _ _
  obtain ⟨c, hc, hs, hlc⟩ := bm_exists hn hE hW hl hp _ b hb (fun u hu => by rw [hi u hu]; exact hl.2.2 u hu) hpre (Nat.le_refl _)
  have hcpost : ∀ u, u < n → c u ≤ ev c u := fun u hu => Int.le_of_eq (hs u hu)
  have hcb : ∀ u, u < n → c u ≤ b u := fun u hu => by rw [hi u hu]; exact hc.2.2 u hu
  have hlo := bm_it_lo hn hE hW hb hc hcpost hcb
  refine ⟨c, hc, hs, hlc, ?_, ?_⟩
  · intro r hch u hu
    have e : bm_it ev n (r + 1) b = bm_it ev n r b := bm_ch_0 _ n hch
    have h1 : ∀ u, u < n → bm_it ev n r b u ≤ ev (bm_it ev n r b) u := fun u hu => by
      have h2 := bm_sw_ev hn hE hW (bm_it_B (ev := ev) hn hb r) n (Nat.le_refl n) u hu
      have h3 : bm_sw ev n (bm_it ev n r b) u = bm_it ev n r b u := congrFun e u
      omega
    have h4 := bm_cmp hE hW hP (bm_it_B (ev := ev) hn hb r) hc.1 hc.2.1 h1 (fun u hu => Int.le_of_eq (hs u hu).symm) u hu
    have h5 := hlo r u hu
    rw [e]; omega
  · have key := bm_grow n (fun j u => bm_it ev n j b u ≤ c u)
      (fun j u _ h => Int.le_trans (bm_sw_le _ n u) h)
      (fun j hx => by
        apply Classical.byContradiction
        intro hno
        obtain ⟨u0, hu0, hn0⟩ := hx
        refine hP c (fun u => ¬ bm_it ev n j b u ≤ c u) ?_ u0 hu0 hn0
        intro u hu hS
        (try dsimp only at hS)
        obtain ⟨v, w, he, hev⟩ := hE.2 c u hu
        have hBj := bm_it_B (ev := ev) hn hb j
        have h1 := hBj.2.2 u hu
        have hf : bm_ex (c v) w < 100000 := by rw [← hev, ← hs u hu]; omega
        obtain ⟨hv1, hv2⟩ := bm_ex_fin hf
        have hcu : c u = c v + w := by rw [hs u hu, hev, hv2]
        have h2 : bm_it ev n (j + 1) b u ≤ ev (bm_it ev n j b) u := bm_sw_ev hn hE hW hBj n (Nat.le_refl n) u hu
        have h3 := hE.1 (bm_it ev n j b) u v w hu he
        rcases hW u v w hu he with ⟨hv, hw1, hw2⟩ | ⟨rfl, hw1, hw2⟩ | rfl
        · refine ⟨v, w, he, hv, ?_, by omega⟩
          intro hPv
          refine hno ⟨u, hu, hS, ?_⟩
          (try dsimp only)
          have h4 := bm_ex_add (x := bm_it ev n j b v) (w := w) (by omega)
          omega
        · exfalso
          refine hno ⟨u, hu, hS, ?_⟩
          (try dsimp only)
          have h5 := hBj.1
          have h6 := hc.1
          have h4 := bm_ex_add (x := bm_it ev n j b 32) (w := w) (by omega)
          omega
        · exfalso
          have := hc.2.1
          omega)
    have hr : ∀ r, n ≤ r → ∀ u, u < n → bm_it ev n r b u ≤ c u := by
      intro r
      induction r with
      | zero => intro h u hu; omega
      | succ r ih =>
        intro h u hu
        by_cases e : n = r + 1
        · have := key u hu
          (try dsimp only at this)
          rw [← e]; exact this
        · exact Int.le_trans (bm_sw_le _ n u) (ih (by omega) u hu)
    intro r h u hu
    have h1 := hr r h u hu
    have h2 := hlo r u hu
    omega
/-- M5: an improvement keeps all cycles positive -/
theorem bm_PC_keep (hn : n ≤ 32) (hE : bm_EV n E ev) (hW : bm_W n E) (hP : bm_PC n E) {b : Nat → Int} (hb : bm_B n b) (sol : ∀ u, u < n → b u = ev b u)
    {E' : Nat → Nat → Int → Prop} (hI : ∀ u v w, u < n → v < n → E' u v w → E u v w ∨ (w = 0 ∧ b u < b v)) : bm_PC n E' := by
  have hr := bm_rng hn hE hW hP hb sol
  intro m S hS u0 hu0 hSu0
  by_cases hx : ∃ u, u < n ∧ S u ∧ b u = 100000
  · obtain ⟨u1, hu1, hS1, hb1⟩ := hx
    refine hP m (fun u => S u ∧ b u = 100000) ?_ u1 hu1 ⟨hS1, hb1⟩
    intro u hu hSu
    obtain ⟨v, w, he, hv, hSv, hm⟩ := hS u hu hSu.1
    have hbv := hb.2.2 v hv
    rcases hI u v w hu hv he with h1 | ⟨h1, h2⟩
    · refine ⟨v, w, h1, hv, ⟨hSv, ?_⟩, hm⟩
      have h3 := hE.1 b u v w hu h1
      rw [← sol u hu, hSu.2] at h3
      apply Classical.byContradiction
      intro hne
      have h4 := bm_ex_add (x := b v) (w := w) (by omega)
      rcases hW u v w hu h1 with ⟨_, hw1, hw2⟩ | ⟨e, _, _⟩ | e
      · rcases hr v hv with h5 | h5 <;> omega
      · omega
      · omega
    · have := hSu.2; omega
  · obtain ⟨u1, hu1, hS1, hmax⟩ := bm_max n S (fun u => b u - m u) ⟨u0, hu0, hSu0⟩
    refine hP m (fun u => S u ∧ b u - m u = b u1 - m u1) ?_ u1 hu1 ⟨hS1, rfl⟩
    intro u hu hSu
    obtain ⟨v, w, he, hv, hSv, hm⟩ := hS u hu hSu.1
    have hmv := hmax v hv hSv
    (try dsimp only at hmv)
    have hd := hSu.2
    rcases hI u v w hu hv he with h1 | ⟨h1, h2⟩
    · refine ⟨v, w, h1, hv, ⟨hSv, ?_⟩, hm⟩
      have h3 := hE.1 b u v w hu h1
      rw [← sol u hu] at h3
      have hne : b v ≠ 100000 := fun e => hx ⟨v, hv, hSv, e⟩
      have hbv := hb.2.2 v hv
      have h4 := bm_ex_add (x := b v) (w := w) (by omega)
      omega
    · omega
end BM1
end
section
section BM2
/-! the mathematics of bounds, 2: two edges a cell, strategies, the least solution, the reference's passes -/
def bm_ev (ph : Nat → Bool) (f s : Nat → Nat) (w1 w2 : Nat → Int) (t : Nat → Bool) (b : Nat → Int) (p : Nat) : Int :=
  if ph p = true then (if t p = true then bm_ex (b (s p)) (w2 p) else bm_ex (b (f p)) (w1 p))
  else (if bm_ex (b (s p)) (w2 p) ≤ bm_ex (b (f p)) (w1 p) then bm_ex (b (s p)) (w2 p) else bm_ex (b (f p)) (w1 p))
def bm_E (ph : Nat → Bool) (f s : Nat → Nat) (w1 w2 : Nat → Int) (t : Nat → Bool) (u v : Nat) (w : Int) : Prop :=
  (v = f u ∧ w = w1 u ∧ ¬ (ph u = true ∧ t u = true)) ∨ (v = s u ∧ w = w2 u ∧ ¬ (ph u = true ∧ t u = false))
def bm_F (ph : Nat → Bool) (f s : Nat → Nat) (w1 w2 : Nat → Int) (b : Nat → Int) (p : Nat) : Int :=
  if ph p = true then (if bm_ex (b (f p)) (w1 p) ≤ bm_ex (b (s p)) (w2 p) then bm_ex (b (s p)) (w2 p) else bm_ex (b (f p)) (w1 p))
  else (if bm_ex (b (s p)) (w2 p) ≤ bm_ex (b (f p)) (w1 p) then bm_ex (b (s p)) (w2 p) else bm_ex (b (f p)) (w1 p))
def bm_G (n : Nat) (ph : Nat → Bool) (f s : Nat → Nat) (w1 w2 : Nat → Int) : Prop := ∀ p, p < n →
  ((f p < p ∧ -4 ≤ w1 p ∧ w1 p ≤ 4) ∨ (f p = 32 ∧ -15 ≤ w1 p ∧ w1 p ≤ 15) ∨ f p = 33) ∧
  (ph p = false → (s p < p ∧ -4 ≤ w2 p ∧ w2 p ≤ 4) ∨ (s p = 32 ∧ -15 ≤ w2 p ∧ w2 p ≤ 15) ∨ s p = 33) ∧
  (ph p = true → w1 p = 0 ∧ w2 p = 0 ∧ f p < p ∧ (s p < n ∨ s p = 33))
def bm_im (ph : Nat → Bool) (f s : Nat → Nat) (t : Nat → Bool) (b : Nat → Int) : Nat → Bool :=
  fun p => if ph p = true ∧ b p < b (if t p = true then f p else s p) then !(t p) else t p
def bm_L (n : Nat) (ph : Nat → Bool) (f s : Nat → Nat) (w1 w2 : Nat → Int) (b : Nat → Int) : Prop :=
  bm_B n b ∧ (∀ u, u < n → b u = 100000 ∨ (-143 ≤ b u ∧ b u ≤ 143)) ∧ (∀ u, u < n → b u = bm_F ph f s w1 w2 b u) ∧
    ∀ m : Nat → Int, m 32 = 0 → m 33 = 100000 → (∀ u, u < n → bm_F ph f s w1 w2 m u ≤ m u) → ∀ u, u < n → b u ≤ m u
variable {n : Nat} {ph : Nat → Bool} {f s : Nat → Nat} {w1 w2 : Nat → Int}
theorem bm_bf {x : Bool} (h : ¬ x = true) : x = false := by cases x <;> simp_all
theorem bm_ev_EV (t : Nat → Bool) : bm_EV n (bm_E ph f s w1 w2 t) (bm_ev ph f s w1 w2 t) := by
  refine ⟨?_, ?_⟩
  · intro b u v w hu he
    unfold bm_ev
    rcases he with ⟨rfl, rfl, hne⟩ | ⟨rfl, rfl, hne⟩
    · by_cases hp : ph u = true
      · rw [if_pos hp, if_neg (fun ht => hne ⟨hp, ht⟩)]; exact Int.le_refl _
      · rw [if_neg hp]
        split <;> omega
    · by_cases hp : ph u = true
      · have ht : t u = true := by
          by_cases ht : t u = true
          · exact ht
          · exact absurd ⟨hp, bm_bf ht⟩ hne
        rw [if_pos hp, if_pos ht]; exact Int.le_refl _
      · rw [if_neg hp]
        split <;> omega
  · intro b u hu
    unfold bm_ev
    by_cases hp : ph u = true
    · by_cases ht : t u = true
      · exact ⟨s u, w2 u, Or.inr ⟨rfl, rfl, fun h => by rw [ht] at h; exact absurd h.2 (by decide)⟩, by rw [if_pos hp, if_pos ht]⟩
      · exact ⟨f u, w1 u, Or.inl ⟨rfl, rfl, fun h => ht h.2⟩, by rw [if_pos hp, if_neg ht]⟩
    · by_cases hc : bm_ex (b (s u)) (w2 u) ≤ bm_ex (b (f u)) (w1 u)
      · exact ⟨s u, w2 u, Or.inr ⟨rfl, rfl, fun h => hp h.1⟩, by rw [if_neg hp, if_pos hc]⟩
      · exact ⟨f u, w1 u, Or.inl ⟨rfl, rfl, fun h => hp h.1⟩, by rw [if_neg hp, if_neg hc]⟩
theorem bm_E_W (hG : bm_G n ph f s w1 w2) (t : Nat → Bool) : bm_W n (bm_E ph f s w1 w2 t) := by
  intro u v w hu he
  obtain ⟨h1, h2, h3⟩ := hG u hu
  rcases he with ⟨rfl, rfl, hne⟩ | ⟨rfl, rfl, hne⟩
  · rcases h1 with h | h | h
    · left; omega
    · right; left; exact h
    · right; right; exact h
  · by_cases hp : ph u = true
    · obtain ⟨h4, h5, h6, h7⟩ := h3 hp
      rcases h7 with h7 | h7
      · left; omega
      · right; right; exact h7
    · rcases h2 (bm_bf hp) with h | h | h
      · left; omega
      · right; left; exact h
      · right; right; exact h
theorem bm_E0 (hG : bm_G n ph f s w1 w2) {t : Nat → Bool} {u v : Nat} {w : Int} (hu : u < n) (ht : t u = false) (he : bm_E ph f s w1 w2 t u v w) :
    (v < u ∧ -4 ≤ w ∧ w ≤ 4) ∨ (v = 32 ∧ -15 ≤ w ∧ w ≤ 15) ∨ v = 33 := by
  obtain ⟨h1, h2, h3⟩ := hG u hu
  rcases he with ⟨rfl, rfl, hne⟩ | ⟨rfl, rfl, hne⟩
  · exact h1
  · have hp : ph u = false := bm_bf fun hp => hne ⟨hp, ht⟩
    exact h2 hp
/-- M7 -/
theorem bm_PC0 (hn : n ≤ 32) (hG : bm_G n ph f s w1 w2) {t : Nat → Bool} (ht : ∀ u, u < n → t u = false) : bm_PC n (bm_E ph f s w1 w2 t) := by
  intro m S hS
  have key : ∀ k u, u < k → u < n → ¬ S u := by
    intro k
    induction k with
    | zero => intro u hu; omega
    | succ k ih =>
      intro u hu hun hSu
      obtain ⟨v, w, he, hv, hSv, _⟩ := hS u hun hSu
      rcases bm_E0 hG hun (ht u hun) he with h | h | h
      · exact ih v (by omega) hv hSv
      · omega
      · omega
  intro u hu
  exact key (u + 1) u (by omega) hu
def bm_lo : Nat → Int := fun u => if u < 32 then -15 - 4 * (u : Int) else if u = 32 then 0 else 100000
theorem bm_lo_c {u : Nat} (h : u < 32) : bm_lo u = -15 - 4 * (u : Int) := if_pos h
theorem bm_lo_B (hn : n ≤ 32) : bm_B n bm_lo := ⟨rfl, rfl, fun u hu => by rw [bm_lo_c (by omega)]; omega⟩
theorem bm_lo_post (hn : n ≤ 32) (hG : bm_G n ph f s w1 w2) {t : Nat → Bool} (ht : ∀ u, u < n → t u = false) : ∀ u, u < n → bm_lo u ≤ bm_ev ph f s w1 w2 t bm_lo u := by
  intro u hu
  obtain ⟨v, w, he, hev⟩ := (bm_ev_EV (n := n) (ph := ph) (f := f) (s := s) (w1 := w1) (w2 := w2) t).2 bm_lo u hu
  rw [hev, bm_lo_c (by omega)]
  rcases bm_E0 hG hu (ht u hu) he with ⟨h, h2, h3⟩ | ⟨h, h2, h3⟩ | h
  · rw [bm_lo_c (by omega), bm_ex_eq (by omega) (by omega)]; omega
  · subst h
    rw [show bm_lo 32 = 0 from rfl, bm_ex_eq (by omega) (by omega)]; omega
  · subst h
    rw [show bm_lo 33 = 100000 from rfl, bm_ex_top (by omega)]; omega
theorem bm_im_t {t : Nat → Bool} {b : Nat → Int} {p : Nat} (h : ph p = true ∧ b p < b (if t p = true then f p else s p)) : bm_im ph f s t b p = !(t p) := if_pos h
theorem bm_im_f {t : Nat → Bool} {b : Nat → Int} {p : Nat} (h : ¬ (ph p = true ∧ b p < b (if t p = true then f p else s p))) : bm_im ph f s t b p = t p := if_neg h
theorem bm_im_E (hG : bm_G n ph f s w1 w2) {t : Nat → Bool} {b : Nat → Int} {u v : Nat} {w : Int} (hu : u < n)
    (he : bm_E ph f s w1 w2 (bm_im ph f s t b) u v w) : bm_E ph f s w1 w2 t u v w ∨ (w = 0 ∧ b u < b v) := by
  by_cases c : ph u = true ∧ b u < b (if t u = true then f u else s u)
  · obtain ⟨_, _, h3⟩ := hG u hu
    obtain ⟨h4, h5, _, _⟩ := h3 c.1
    have hi := bm_im_t c
    have c2 := c.2
    right
    rcases he with ⟨rfl, rfl, hne⟩ | ⟨rfl, rfl, hne⟩
    · have ht : t u = true := by
        by_cases ht : t u = true
        · exact ht
        · exact absurd ⟨c.1, by rw [hi, bm_bf ht]; rfl⟩ hne
      rw [if_pos ht] at c2
      exact ⟨h4, c2⟩
    · have ht : ¬ t u = true := fun ht => hne ⟨c.1, by rw [hi, ht]; rfl⟩
      rw [if_neg ht] at c2
      exact ⟨h5, c2⟩
  · left
    unfold bm_E at he ⊢
    rw [bm_im_f c] at he
    exact he
theorem bm_vert (hG : bm_G n ph f s w1 w2) {u : Nat} (hu : u < n) : (f u < n ∨ f u = 32 ∨ f u = 33) ∧ (s u < n ∨ s u = 32 ∨ s u = 33) := by
  obtain ⟨h1, h2, h3⟩ := hG u hu
  refine ⟨by omega, ?_⟩
  by_cases hp : ph u = true
  · obtain ⟨_, _, _, h4⟩ := h3 hp; omega
  · have := h2 (bm_bf hp); omega
theorem bm_at {b : Nat → Int} (hb : bm_B n b) {v : Nat} (h : v < n ∨ v = 32 ∨ v = 33) : b v ≤ 100000 := by
  rcases h with h | h | h
  · exact hb.2.2 v h
  · subst h; rw [hb.1]; omega
  · subst h; rw [hb.2.1]; omega
theorem bm_at2 {b c : Nat → Int} (h0 : b 32 = c 32) (h1 : b 33 = c 33) (h : ∀ u, u < n → b u ≤ c u) {v : Nat} (hv : v < n ∨ v = 32 ∨ v = 33) : b v ≤ c v := by
  rcases hv with hv | hv | hv
  · exact h v hv
  · subst hv; rw [h0]; exact Int.le_refl _
  · subst hv; rw [h1]; exact Int.le_refl _
/-- what a turned cell now follows -/
theorem bm_im_val (hG : bm_G n ph f s w1 w2) {t : Nat → Bool} {b c : Nat → Int} (hc : bm_B n c) {u : Nat} (hu : u < n)
    (h : ph u = true ∧ b u < b (if t u = true then f u else s u)) :
    bm_ev ph f s w1 w2 (bm_im ph f s t b) c u = c (if t u = true then f u else s u) := by
  obtain ⟨_, _, h3⟩ := hG u hu
  obtain ⟨h4, h5, _, _⟩ := h3 h.1
  have hv := bm_vert hG hu
  unfold bm_ev
  rw [if_pos h.1, bm_im_t h, h4, h5]
  by_cases ht : t u = true
  · rw [if_pos ht, ht]
    exact bm_ex_0 (bm_at hc hv.1)
  · rw [if_neg ht, bm_bf ht]
    exact bm_ex_0 (bm_at hc hv.2)
theorem bm_im_same {t : Nat → Bool} {b c : Nat → Int} {u : Nat}
    (h : ¬ (ph u = true ∧ b u < b (if t u = true then f u else s u))) :
    bm_ev ph f s w1 w2 (bm_im ph f s t b) c u = bm_ev ph f s w1 w2 t c u := by
  unfold bm_ev
  rw [bm_im_f h]
theorem bm_im_post (hG : bm_G n ph f s w1 w2) {t : Nat → Bool} {b : Nat → Int} (hb : bm_B n b) (sol : ∀ u, u < n → b u = bm_ev ph f s w1 w2 t b u) :
    ∀ u, u < n → b u ≤ bm_ev ph f s w1 w2 (bm_im ph f s t b) b u := by
  intro u hu
  by_cases c : ph u = true ∧ b u < b (if t u = true then f u else s u)
  · rw [bm_im_val hG hb hu c]; have := c.2; omega
  · rw [bm_im_same c]; exact Int.le_of_eq (sol u hu)
theorem bm_im_raise (hG : bm_G n ph f s w1 w2) {t : Nat → Bool} {b c : Nat → Int} (hb : bm_B n b) (hc : bm_B n c)
    (sol : ∀ u, u < n → c u = bm_ev ph f s w1 w2 (bm_im ph f s t b) c u) (hbc : ∀ u, u < n → b u ≤ c u) {u : Nat} (hu : u < n)
    (h : ph u = true ∧ b u < b (if t u = true then f u else s u)) : b u < c u := by
  rw [sol u hu, bm_im_val hG hc hu h]
  refine Int.lt_of_lt_of_le h.2 (bm_at2 (n := n) (by rw [hb.1, hc.1]) (by rw [hb.2.1, hc.2.1]) hbc ?_)
  have hv := bm_vert hG hu
  by_cases ht : t u = true
  · rw [if_pos ht]; exact hv.1
  · rw [if_neg ht]; exact hv.2
def bm_phi (n : Nat) (b : Nat → Int) : Nat := bm_sum (fun u => ((if b u < 144 then b u else 144) + 143).toNat) n
theorem bm_phi_le (hn : n ≤ 32) (b : Nat → Int) : bm_phi n b ≤ 9184 := by
  have h := bm_sum_le (f := fun u => ((if b u < 144 then b u else 144) + 143).toNat) 287 n (fun u _ => by (try dsimp only); split <;> omega)
  unfold bm_phi
  omega
theorem bm_phi_lt {b c : Nat → Int} (hc : bm_B n c) (hr : ∀ u, u < n → b u = 100000 ∨ (-143 ≤ b u ∧ b u ≤ 143)) (h : ∀ u, u < n → b u ≤ c u) {u : Nat} (hu : u < n) (hlt : b u < c u) :
    bm_phi n b < bm_phi n c := by
  unfold bm_phi
  refine bm_sum_lt n (fun v hv => ?_) u hu ?_
  · have h1 := h v hv
    (try dsimp only)
    split <;> split <;> omega
  · have h1 := hc.2.2 u hu
    (try dsimp only)
    rcases hr u hu with h2 | h2
    · omega
    · split <;> split <;> omega
/-- the state of the component between two rounds -/
def bm_Inv (n : Nat) (ph : Nat → Bool) (f s : Nat → Nat) (w1 w2 : Nat → Int) (t : Nat → Bool) (b : Nat → Int) (r : Nat) : Prop :=
  bm_PC n (bm_E ph f s w1 w2 t) ∧ bm_B n b ∧ (∀ u, u < n → b u = bm_ev ph f s w1 w2 t b u) ∧ r ≤ bm_phi n b
theorem bm_Inv_r (hn : n ≤ 32) {t : Nat → Bool} {b : Nat → Int} {r : Nat} (h : bm_Inv n ph f s w1 w2 t b r) : r ≤ 9184 := by
  have := bm_phi_le hn b
  have := h.2.2.2
  omega
theorem bm_Inv_B {t : Nat → Bool} {b c : Nat → Int} (h : ∀ u, u < 34 → c u = b u) (hn : n ≤ 32) (hb : bm_B n b) : bm_B n c :=
  ⟨by rw [h 32 (by omega)]; exact hb.1, by rw [h 33 (by omega)]; exact hb.2.1, fun u hu => by rw [h u (by omega)]; exact hb.2.2 u hu⟩
/-- a settled state after the first strategy -/
theorem bm_first (hn : n ≤ 32) (hG : bm_G n ph f s w1 w2) {t : Nat → Bool} (ht : ∀ u, u < n → t u = false) {b : Nat → Int} (hb : bm_B n b) (hi : ∀ u, u < n → b u = 100000) :
    ∃ c, bm_Inv n ph f s w1 w2 t c 0 ∧
      (∀ r, bm_ch (bm_ev ph f s w1 w2 t) n (bm_it (bm_ev ph f s w1 w2 t) n r b) = 0 → ∀ u, u < n → bm_it (bm_ev ph f s w1 w2 t) n (r + 1) b u = c u) ∧
      (∀ r, n ≤ r → ∀ u, u < n → bm_it (bm_ev ph f s w1 w2 t) n r b u = c u) := by
  obtain ⟨c, h1, h2, _, h4, h5⟩ := bm_settle hn (bm_ev_EV t) (bm_E_W hG t) (bm_PC0 hn hG ht) (bm_lo_B hn) (bm_lo_post hn hG ht) hb hi
  exact ⟨c, ⟨bm_PC0 hn hG ht, h1, h2, Nat.zero_le _⟩, h4, h5⟩
/-- .. and after a round that turned a cell -/
theorem bm_next (hn : n ≤ 32) (hG : bm_G n ph f s w1 w2) {t : Nat → Bool} {b : Nat → Int} {r : Nat} (hI : bm_Inv n ph f s w1 w2 t b r)
    (hx : ∃ u, u < n ∧ ph u = true ∧ b u < b (if t u = true then f u else s u)) {b0 : Nat → Int} (hb0 : bm_B n b0) (hi : ∀ u, u < n → b0 u = 100000) :
    ∃ c, bm_Inv n ph f s w1 w2 (bm_im ph f s t b) c (r + 1) ∧
      (∀ r, bm_ch (bm_ev ph f s w1 w2 (bm_im ph f s t b)) n (bm_it (bm_ev ph f s w1 w2 (bm_im ph f s t b)) n r b0) = 0 → ∀ u, u < n → bm_it (bm_ev ph f s w1 w2 (bm_im ph f s t b)) n (r + 1) b0 u = c u) ∧
      (∀ r, n ≤ r → ∀ u, u < n → bm_it (bm_ev ph f s w1 w2 (bm_im ph f s t b)) n r b0 u = c u) := by
  obtain ⟨hP, hb, hs, hr⟩ := hI
  have hP2 : bm_PC n (bm_E ph f s w1 w2 (bm_im ph f s t b)) :=
    bm_PC_keep hn (bm_ev_EV t) (bm_E_W hG t) hP hb hs (fun u v w hu _ he => bm_im_E hG hu he)
  obtain ⟨c, h1, h2, h3, h4, h5⟩ := bm_settle hn (bm_ev_EV (bm_im ph f s t b)) (bm_E_W hG (bm_im ph f s t b)) hP2 hb (bm_im_post hG hb hs) hb0 hi
  refine ⟨c, ⟨hP2, h1, h2, ?_⟩, h4, h5⟩
  obtain ⟨u, hu, h⟩ := hx
  have := bm_phi_lt h1 (bm_rng hn (bm_ev_EV t) (bm_E_W hG t) hP hb hs) h3 hu (bm_im_raise hG hb h1 h2 h3 hu h)
  omega
/-- M8: no cell is turned: the least solution -/
theorem bm_last (hn : n ≤ 32) (hG : bm_G n ph f s w1 w2) {t : Nat → Bool} {b : Nat → Int} {r : Nat} (hI : bm_Inv n ph f s w1 w2 t b r)
    (hx : ¬ ∃ u, u < n ∧ ph u = true ∧ b u < b (if t u = true then f u else s u)) : bm_L n ph f s w1 w2 b := by
  obtain ⟨hP, hb, hs, hr⟩ := hI
  refine ⟨hb, bm_rng hn (bm_ev_EV t) (bm_E_W hG t) hP hb hs, ?_, ?_⟩
  · intro u hu
    have h1 := hs u hu
    obtain ⟨_, _, h3⟩ := hG u hu
    have hv := bm_vert hG hu
    by_cases hp : ph u = true
    · obtain ⟨h4, h5, _, _⟩ := h3 hp
      have hle : ¬ b u < b (if t u = true then f u else s u) := fun h => hx ⟨u, hu, hp, h⟩
      unfold bm_F
      unfold bm_ev at h1
      rw [if_pos hp, h4, h5] at h1
      rw [if_pos hp, h4, h5]
      rw [bm_ex_0 (bm_at hb hv.1), bm_ex_0 (bm_at hb hv.2)] at h1 ⊢
      by_cases ht : t u = true
      · rw [if_pos ht] at h1 hle
        split <;> omega
      · rw [if_neg ht] at h1 hle
        split <;> omega
    · unfold bm_ev at h1
      rw [if_neg hp] at h1
      unfold bm_F
      rw [if_neg hp]
      exact h1
  · intro m hm0 hm1 hm
    refine bm_cmp (bm_ev_EV t) (bm_E_W hG t) hP hb hm0 hm1 (fun u hu => Int.le_of_eq (hs u hu)) (fun u hu => Int.le_trans ?_ (hm u hu))
    unfold bm_ev bm_F
    by_cases hp : ph u = true
    · rw [if_pos hp, if_pos hp]
      split <;> split <;> omega
    · rw [if_neg hp, if_neg hp]
      exact Int.le_refl _
/-! the range while sweeping -/
def bm_R (n t : Nat) (b : Nat → Int) : Prop := ∀ u, (u < n ∨ u = 32 ∨ u = 33) → b u = 100000 ∨ (-(15 + 4 * (t : Int)) ≤ b u ∧ b u ≤ 15 + 4 * (t : Int))
theorem bm_R_w {t t2 : Nat} {b : Nat → Int} (h : bm_R n t b) (ht : t ≤ t2) : bm_R n t2 b := by
  intro u hu
  rcases h u hu with h | h
  · exact Or.inl h
  · right; omega
theorem bm_R_ev (hG : bm_G n ph f s w1 w2) {t : Nat → Bool} {b : Nat → Int} {k : Nat} (hk : k ≤ 5000) (hb : bm_B n b) (hR : bm_R n k b) {u : Nat} (hu : u < n) :
    bm_ev ph f s w1 w2 t b u = 100000 ∨ (-(15 + 4 * ((k : Int) + 1)) ≤ bm_ev ph f s w1 w2 t b u ∧ bm_ev ph f s w1 w2 t b u ≤ 15 + 4 * ((k : Int) + 1)) := by
  obtain ⟨v, w, he, hev⟩ := (bm_ev_EV (n := n) (ph := ph) (f := f) (s := s) (w1 := w1) (w2 := w2) t).2 b u hu
  rw [hev]
  rcases bm_E_W hG t u v w hu he with ⟨hv, h1, h2⟩ | ⟨hv, h1, h2⟩ | hv
  · rcases hR v (Or.inl hv) with h3 | h3
    · left; exact bm_ex_top (by omega)
    · right; rw [bm_ex_eq (by omega) (by omega)]; omega
  · right
    subst hv
    have := hb.1
    rw [bm_ex_eq (by omega) (by omega)]; omega
  · left
    subst hv
    have := hb.2.1
    exact bm_ex_top (by omega)
theorem bm_R_st (hG : bm_G n ph f s w1 w2) {t : Nat → Bool} {b : Nat → Int} {k : Nat} (hk : k ≤ 5000) (hb : bm_B n b) (hR : bm_R n k b) {u : Nat} (hu : u < n) :
    bm_R n (k + 1) (bm_st (bm_ev ph f s w1 w2 t) u b) := by
  intro v hv
  by_cases e : v = u
  · subst e
    rcases bm_st_or (ev := bm_ev ph f s w1 w2 t) v b with h | h
    · rw [h]
      have := bm_R_ev (t := t) hG hk hb hR hu
      omega
    · rw [h]
      rcases hR v hv with h2 | h2
      · exact Or.inl h2
      · right; omega
  · rw [bm_st_n e]
    rcases hR v hv with h2 | h2
    · exact Or.inl h2
    · right; omega
theorem bm_R_sw (hn : n ≤ 32) (hG : bm_G n ph f s w1 w2) {t : Nat → Bool} {b : Nat → Int} {k : Nat} (hk : k ≤ 4000) (hb : bm_B n b) (hR : bm_R n k b) (j : Nat) (hj : j ≤ n) :
    bm_R n (k + j) (bm_sw (bm_ev ph f s w1 w2 t) j b) := by
  induction j with
  | zero => exact hR
  | succ j ih => exact bm_R_st hG (by omega) (bm_sw_B hn hb j (by omega)) (ih (by omega)) (by omega)
theorem bm_R_it (hn : n ≤ 32) (hG : bm_G n ph f s w1 w2) {t : Nat → Bool} {b : Nat → Int} (hb : bm_B n b) (hi : ∀ u, u < n → b u = 100000) (r : Nat) (hr : r ≤ 100) :
    bm_R n (32 * r) (bm_it (bm_ev ph f s w1 w2 t) n r b) := by
  induction r with
  | zero =>
    intro u hu
    rcases hu with hu | hu | hu
    · exact Or.inl (hi u hu)
    · subst hu; right
      have : bm_it (bm_ev ph f s w1 w2 t) n 0 b 32 = 0 := hb.1
      omega
    · subst hu; exact Or.inl hb.2.1
  | succ r ih => exact bm_R_w (bm_R_sw hn hG (by omega) (bm_it_B hn hb r) (ih (by omega)) n (Nat.le_refl n)) (by omega)
/-! the reference: passes that rise -/
def bm_cl (x : Int) : Int := if 150 < x then 100000 else x
theorem bm_cl_mono {x y : Int} (h : x ≤ y) (hy : y ≤ 100000) : bm_cl x ≤ bm_cl y := by
  unfold bm_cl
  split <;> split <;> omega
theorem bm_cl_ge {x : Int} (h : x ≤ 100000) : x ≤ bm_cl x := by
  unfold bm_cl
  split <;> omega
theorem bm_cl_le {x : Int} (h : x ≤ 100000) : bm_cl x ≤ 100000 := by
  unfold bm_cl
  split <;> omega
theorem bm_cl_or (x : Int) : bm_cl x = 100000 ∨ bm_cl x ≤ 150 := by
  unfold bm_cl
  split
  · exact Or.inl rfl
  · right; omega
theorem bm_F_le (b : Nat → Int) (u : Nat) : bm_F ph f s w1 w2 b u ≤ 100000 := by
  have h1 := bm_ex_le (b (f u)) (w1 u)
  have h2 := bm_ex_le (b (s u)) (w2 u)
  unfold bm_F
  split <;> split <;> omega
theorem bm_F_mono (hG : bm_G n ph f s w1 w2) {b c : Nat → Int} (h0 : b 32 = c 32) (h1 : b 33 = c 33) (h : ∀ u, u < n → b u ≤ c u) {u : Nat} (hu : u < n) :
    bm_F ph f s w1 w2 b u ≤ bm_F ph f s w1 w2 c u := by
  have hv := bm_vert hG hu
  have h2 := bm_ex_mono (w1 u) (bm_at2 h0 h1 h hv.1)
  have h3 := bm_ex_mono (w2 u) (bm_at2 h0 h1 h hv.2)
  unfold bm_F
  by_cases hp : ph u = true
  · rw [if_pos hp, if_pos hp]
    split <;> split <;> omega
  · rw [if_neg hp, if_neg hp]
    split <;> split <;> omega
def bm_YI (n : Nat) (ph : Nat → Bool) (f s : Nat → Nat) (w1 w2 : Nat → Int) (r : Nat → Int) (p : Nat) (b : Nat → Int) : Prop :=
  b 32 = 0 ∧ b 33 = 100000 ∧ (∀ u, u < n → b u = 100000 ∨ (-1000000 ≤ b u ∧ b u ≤ 150)) ∧ (∀ u, u < n → b u ≤ r u) ∧
    ∀ u, u < n → (-15 - 4 * (u : Int) ≤ b u ∧ b u ≤ bm_cl (bm_F ph f s w1 w2 b u)) ∨ (p ≤ u ∧ b u = -1000000)
theorem bm_F_lo (hn : n ≤ 32) (hG : bm_G n ph f s w1 w2) {b : Nat → Int} {p : Nat} (hp : p < n) (h0 : b 32 = 0) (h1 : b 33 = 100000)
    (h : ∀ u, u < p → -15 - 4 * (u : Int) ≤ b u) : -15 - 4 * (p : Int) ≤ bm_F ph f s w1 w2 b p := by
  have ed : ∀ (v : Nat) (w : Int), ((v < p ∧ -4 ≤ w ∧ w ≤ 4) ∨ (v = 32 ∧ -15 ≤ w ∧ w ≤ 15) ∨ v = 33) → -15 - 4 * (p : Int) ≤ bm_ex (b v) w := by
    intro v w hv
    rcases hv with ⟨hv, h2, h3⟩ | ⟨hv, h2, h3⟩ | hv
    · have h4 := h v hv
      by_cases h5 : 100000 ≤ b v
      · rw [bm_ex_top h5]; omega
      · by_cases h6 : 100000 ≤ b v + w
        · unfold bm_ex; rw [if_neg h5, if_pos h6]; omega
        · rw [bm_ex_eq (by omega) (by omega)]; omega
    · subst hv
      rw [h0, bm_ex_eq (by omega) (by omega)]; omega
    · subst hv
      rw [h1, bm_ex_top (by omega)]; omega
  obtain ⟨g1, g2, g3⟩ := hG p hp
  have e1 := ed (f p) (w1 p) g1
  unfold bm_F
  by_cases hq : ph p = true
  · rw [if_pos hq]
    split <;> omega
  · rw [if_neg hq]
    have e2 := ed (s p) (w2 p) (g2 (bm_bf hq))
    split <;> omega
theorem bm_YI_step (hn : n ≤ 32) (hG : bm_G n ph f s w1 w2) {r b : Nat → Int} (hr : bm_L n ph f s w1 w2 r) {p : Nat} (hp : p < n) (hI : bm_YI n ph f s w1 w2 r p b) :
    bm_YI n ph f s w1 w2 r (p + 1) (bm_up b p (bm_cl (bm_F ph f s w1 w2 b p))) ∧ b p ≤ bm_cl (bm_F ph f s w1 w2 b p) ∧
      -15 - 4 * (p : Int) ≤ bm_cl (bm_F ph f s w1 w2 b p) ∧ bm_cl (bm_F ph f s w1 w2 b p) ≤ 100000 := by
  obtain ⟨h0, h1, h2, h3, h4⟩ := hI
  have hF := bm_F_le (ph := ph) (f := f) (s := s) (w1 := w1) (w2 := w2) b p
  have hlo : -15 - 4 * (p : Int) ≤ bm_F ph f s w1 w2 b p := bm_F_lo hn hG hp h0 h1 (fun u hu => by
    rcases h4 u (by omega) with h | h
    · exact h.1
    · omega)
  have hge := bm_cl_ge hF
  have hle := bm_cl_le hF
  have hbp : b p ≤ bm_cl (bm_F ph f s w1 w2 b p) := by
    rcases h4 p hp with h | h
    · exact h.2
    · omega
  have hup : ∀ u, b u ≤ bm_up b p (bm_cl (bm_F ph f s w1 w2 b p)) u := by
    intro u
    by_cases e : u = p
    · subst e; rw [bm_up_s]; exact hbp
    · rw [bm_up_n e]; exact Int.le_refl _
  have e0 : bm_up b p (bm_cl (bm_F ph f s w1 w2 b p)) 32 = b 32 := bm_up_n (by omega)
  have e1 : bm_up b p (bm_cl (bm_F ph f s w1 w2 b p)) 33 = b 33 := bm_up_n (by omega)
  have hmono : ∀ u, u < n → bm_cl (bm_F ph f s w1 w2 b u) ≤ bm_cl (bm_F ph f s w1 w2 (bm_up b p (bm_cl (bm_F ph f s w1 w2 b p))) u) :=
    fun u hu => bm_cl_mono (bm_F_mono hG e0.symm e1.symm (fun v _ => hup v) hu) (bm_F_le _ _)
  refine ⟨⟨by rw [e0, h0], by rw [e1, h1], ?_, ?_, ?_⟩, hbp, by omega, hle⟩
  · intro u hu
    by_cases e : u = p
    · subst e; rw [bm_up_s]
      rcases bm_cl_or (bm_F ph f s w1 w2 b u) with h | h
      · exact Or.inl h
      · right; omega
    · rw [bm_up_n e]; exact h2 u hu
  · intro u hu
    by_cases e : u = p
    · subst e; rw [bm_up_s]
      have hm := bm_F_mono hG (by rw [h0, hr.1.1]) (by rw [h1, hr.1.2.1]) h3 hu
      rw [← hr.2.2.1 u hu] at hm
      have hm2 := bm_cl_mono hm (hr.1.2.2 u hu)
      have hm3 : bm_cl (r u) = r u := by
        unfold bm_cl
        rcases hr.2.1 u hu with h | h
        · rw [h]; rfl
        · rw [if_neg (by omega)]
      rw [hm3] at hm2
      exact hm2
    · rw [bm_up_n e]; exact h3 u hu
  · intro u hu
    by_cases e : u = p
    · subst e
      left
      have hm := hmono u hu
      rw [bm_up_s]
      exact ⟨by omega, hm⟩
    · rcases h4 u hu with h | h
      · left
        have hm := hmono u hu
        rw [bm_up_n e]
        exact ⟨h.1, by omega⟩
      · right
        rw [bm_up_n e]
        exact ⟨by omega, h.2⟩
theorem bm_YI_0 (r b : Nat → Int) (h : bm_YI n ph f s w1 w2 r n b) : bm_YI n ph f s w1 w2 r 0 b :=
  ⟨h.1, h.2.1, h.2.2.1, h.2.2.2.1, fun u hu => by
    rcases h.2.2.2.2 u hu with h | h
    · exact Or.inl h
    · omega⟩
theorem bm_YI_start {r b : Nat → Int} (hr : bm_L n ph f s w1 w2 r) (h0 : b 32 = 0) (h1 : b 33 = 100000) (h : ∀ u, u < n → b u = -1000000) : bm_YI n ph f s w1 w2 r 0 b :=
  ⟨h0, h1, fun u hu => Or.inr (by rw [h u hu]; omega), fun u hu => by
    rw [h u hu]
    rcases hr.2.1 u hu with h | h <;> omega, fun u hu => Or.inr ⟨by omega, h u hu⟩⟩
theorem bm_YI_end {r b : Nat → Int} (hr : bm_L n ph f s w1 w2 r) {p : Nat} (hI : bm_YI n ph f s w1 w2 r p b) (hf : ∀ u, u < n → b u = bm_cl (bm_F ph f s w1 w2 b u)) :
    ∀ u, u < n → b u = r u := by
  intro u hu
  have h1 := hI.2.2.2.1 u hu
  have h2 := hr.2.2.2 b hI.1 hI.2.1 (fun v hv => by
    have h3 := hf v hv
    have h4 := bm_cl_ge (bm_F_le (ph := ph) (f := f) (s := s) (w1 := w1) (w2 := w2) b v)
    omega) u hu
  omega
def bm_psi (n : Nat) (b : Nat → Int) : Nat := bm_sum (fun u => ((if b u < -140 then -140 else if b u < 151 then b u else 151) + 140).toNat) n
theorem bm_psi_le (hn : n ≤ 32) (b : Nat → Int) : bm_psi n b ≤ 9312 := by
  have h := bm_sum_le (f := fun u => ((if b u < -140 then -140 else if b u < 151 then b u else 151) + 140).toNat) 291 n (fun u _ => by
    (try dsimp only)
    split
    · omega
    · split <;> omega)
  unfold bm_psi
  omega
theorem bm_psi_up (hn : n ≤ 32) {b : Nat → Int} {p : Nat} {x : Int} (hp : p < n) (h2 : b p = 100000 ∨ (-1000000 ≤ b p ∧ b p ≤ 150)) (h : b p ≤ x) (hx : -15 - 4 * (p : Int) ≤ x) (hx2 : x ≤ 100000) (hne : x ≠ b p) :
    bm_psi n b < bm_psi n (bm_up b p x) := by
  unfold bm_psi
  refine bm_sum_lt n (fun v hv => ?_) p hp ?_
  · (try dsimp only)
    by_cases e : v = p
    · subst e
      rw [bm_up_s]
      split
      · split
        · omega
        · split <;> omega
      · split
        · split
          · omega
          · split <;> omega
        · split
          · omega
          · split <;> omega
    · rw [bm_up_n e]; exact Nat.le_refl _
  · (try dsimp only)
    rw [bm_up_s]
    split
    · split
      · omega
      · split <;> omega
    · split
      · split
        · omega
        · split <;> omega
      · split
        · omega
        · split <;> omega
end BM2
end
section
section CR
/-! numbers (the rows named pk_ began as rows of the kit's PURE-ROWS) -/
theorem pk_us {f : Nat → Int32} {k : Nat} {x : Int32} : upd f k x k = x := if_pos rfl
theorem pk_un {f : Nat → Int32} {k j : Nat} {x : Int32} (h : j ≠ k) : upd f k x j = f j := if_neg h
theorem pk_mul (a b : Nat) : nI a * nI b = nI (a * b) := (Int32.ofNat_mul a b).symm
theorem pk_ix (x : Int32) {n : Nat} (hn : n < 2 ^ 31) : x < 0 ∨ nI n ≤ x ∨ ∃ j : Nat, j < n ∧ x = nI j := by
  by_cases h : x < 0
  · exact Or.inl h
  · obtain ⟨j, hj, rfl⟩ := nI_of h
    by_cases h2 : j < n
    · exact Or.inr (Or.inr ⟨j, h2, rfl⟩)
    · exact Or.inr (Or.inl (nI_le (by omega) hj))
theorem qn_vb0 : vp_nar .boolean 0 = 0 := by decide
theorem qn_vb1 : vp_nar .boolean 1 = 1 := by decide
theorem qn_lt {x y : Int32} : x < y ↔ x.toInt < y.toInt := Int32.lt_iff_toInt_lt
theorem qn_le {x y : Int32} : x ≤ y ↔ x.toInt ≤ y.toInt := Int32.le_iff_toInt_le
theorem qn_eq {x y : Int32} : x = y ↔ x.toInt = y.toInt := Int32.toInt_inj.symm
theorem qn_add {x y : Int32} {a b : Int} (hx : x.toInt = a) (hy : y.toInt = b) (h1 : -2147483648 ≤ a + b) (h2 : a + b < 2147483648) : (x + y).toInt = a + b := by
  rw [Jvm.Kit.i32_add (by rw [hx, hy]; omega) (by rw [hx, hy]; omega), hx, hy]
theorem qn_sub {x y : Int32} {a b : Int} (hx : x.toInt = a) (hy : y.toInt = b) (h1 : -2147483648 ≤ a - b) (h2 : a - b < 2147483648) : (x - y).toInt = a - b := by
  rw [Jvm.Kit.i32_sub (by rw [hx, hy]; omega) (by rw [hx, hy]; omega), hx, hy]
theorem qn_0 : (0 : Int32).toInt = 0 := by decide
theorem qn_1 : (1 : Int32).toInt = 1 := by decide
theorem qn_m1 : (-1 : Int32).toInt = -1 := by decide
theorem qn_inf : (100000 : Int32).toInt = 100000 := by decide
theorem qn_far : (1000000 : Int32).toInt = 1000000 := by decide
theorem qn_mfar : (-1000000 : Int32).toInt = -1000000 := by decide
theorem qn_150 : (150 : Int32).toInt = 150 := by decide
theorem qn_m150 : (-150 : Int32).toInt = -150 := by decide
theorem qn_m1000 : (-1000 : Int32).toInt = -1000 := by decide
theorem qn_127 : (127 : Int32).toInt = 127 := by decide
theorem qn_m128 : (-128 : Int32).toInt = -128 := by decide
theorem qn_n {n : Nat} (h : n < 2 ^ 31) : (nI n).toInt = (n : Int) := nI_toInt h
theorem qn_inj {a b : Nat} (h : nI a = nI b) (ha : a < 2 ^ 31) (hb : b < 2 ^ 31) : a = b := (nI_eq ha hb).mp h
/-! a cell's two edges in graph g -/
def cr_sg (g : Nat) : Int := if g = 3 then -1 else 1
def cr_row (g n : Nat) (c a b : Int32) : Nat × Int × Nat × Int :=
  if c = 0 then (32, cr_sg g * a.toInt, 33, 0)
  else if c = 1 then ((if g = 3 ∨ a = nI g then 32 else 33), 0, 33, 0)
  else if c = 3 then (a.toNatClampNeg, cr_sg g * b.toInt, 33, 0)
  else if c = 4 then ((if cr_sg g * b.toInt < 0 then 33 else a.toNatClampNeg), cr_sg g * b.toInt, 33, 0)
  else if c = 5 then (a.toNatClampNeg, 0, (if b.toNatClampNeg < n then b.toNatClampNeg else 33), 0)
  else if c = 6 then (a.toNatClampNeg, 0, (if g = 3 then 33 else b.toNatClampNeg), (if g = 3 then 0 else -1))
  else if c = 7 then (a.toNatClampNeg, 0, (if g = 3 then 33 else b.toNatClampNeg), 0)
  else if c = 8 then (a.toNatClampNeg, 0, (if g = 3 then b.toNatClampNeg else 33), (if g = 3 then -1 else 0))
  else if c = 9 then (a.toNatClampNeg, 0, (if g = 3 then b.toNatClampNeg else 33), 0)
  else if c = 10 then (a.toNatClampNeg, 0, (if g = 3 ∨ b = nI g then 32 else 33), (if g = 3 then 0 else if b = nI g then -1 else 0))
  else (33, 0, 33, 0)
theorem cr_r0 (g n : Nat) (a b : Int32) : cr_row g n 0 a b = (32, cr_sg g * a.toInt, 33, 0) := rfl
theorem cr_r1 (g n : Nat) (a b : Int32) : cr_row g n 1 a b = ((if g = 3 ∨ a = nI g then 32 else 33), 0, 33, 0) := rfl
theorem cr_r2 (g n : Nat) (a b : Int32) : cr_row g n 2 a b = (33, 0, 33, 0) := rfl
theorem cr_r3 (g n : Nat) (a b : Int32) : cr_row g n 3 a b = (a.toNatClampNeg, cr_sg g * b.toInt, 33, 0) := rfl
theorem cr_r4 (g n : Nat) (a b : Int32) : cr_row g n 4 a b = ((if cr_sg g * b.toInt < 0 then 33 else a.toNatClampNeg), cr_sg g * b.toInt, 33, 0) := rfl
theorem cr_r5 (g n : Nat) (a b : Int32) : cr_row g n 5 a b = (a.toNatClampNeg, 0, (if b.toNatClampNeg < n then b.toNatClampNeg else 33), 0) := rfl
theorem cr_r6 (g n : Nat) (a b : Int32) : cr_row g n 6 a b = (a.toNatClampNeg, 0, (if g = 3 then 33 else b.toNatClampNeg), (if g = 3 then 0 else -1)) := rfl
theorem cr_r7 (g n : Nat) (a b : Int32) : cr_row g n 7 a b = (a.toNatClampNeg, 0, (if g = 3 then 33 else b.toNatClampNeg), 0) := rfl
theorem cr_r8 (g n : Nat) (a b : Int32) : cr_row g n 8 a b = (a.toNatClampNeg, 0, (if g = 3 then b.toNatClampNeg else 33), (if g = 3 then -1 else 0)) := rfl
theorem cr_r9 (g n : Nat) (a b : Int32) : cr_row g n 9 a b = (a.toNatClampNeg, 0, (if g = 3 then b.toNatClampNeg else 33), 0) := rfl
theorem cr_r10 (g n : Nat) (a b : Int32) : cr_row g n 10 a b = (a.toNatClampNeg, 0, (if g = 3 ∨ b = nI g then 32 else 33), (if g = 3 then 0 else if b = nI g then -1 else 0)) := rfl
theorem cr_r11 (g n : Nat) (a b : Int32) : cr_row g n 11 a b = (33, 0, 33, 0) := rfl
theorem cr_r12 (g n : Nat) (a b : Int32) : cr_row g n 12 a b = (33, 0, 33, 0) := rfl
theorem cr_r13 (g n : Nat) (a b : Int32) : cr_row g n 13 a b = (33, 0, 33, 0) := rfl
theorem cr_r14 (g n : Nat) (a b : Int32) : cr_row g n 14 a b = (33, 0, 33, 0) := rfl
/-- what emit grants of cell p: CC cells, AA arrays -/
def cr_ok (CC AA p : Nat) (kd : Nat → Int32) (c a b d : Int32) : Prop :=
  (c = 0 ∧ -15 ≤ a.toInt ∧ a.toInt ≤ 15) ∨
  (c = 1 ∧ ∃ k, k < AA ∧ a = nI k) ∨
  (c = 2 ∧ ∃ k, k < 4 ∧ a = nI k) ∨
  ((c = 3 ∨ c = 4) ∧ (∃ q, q < p ∧ a = nI q) ∧ -4 ≤ b.toInt ∧ b.toInt ≤ 4) ∨
  (c = 5 ∧ (∃ q, q < p ∧ a = nI q) ∧ ∃ q, q < CC ∧ b = nI q) ∨
  ((c = 6 ∨ c = 7 ∨ c = 8 ∨ c = 9) ∧ (∃ q, q < p ∧ a = nI q) ∧ (∃ q, q < p ∧ b = nI q) ∧ ∃ q, q ≤ CC ∧ d = nI q) ∨
  (c = 10 ∧ (∃ q, q < p ∧ a = nI q) ∧ ∃ k, k < AA ∧ b = nI k) ∨
  (c = 11 ∧ ∃ q, q < p ∧ a = nI q ∧ kd q = 10) ∨
  (c = 12 ∧ (∃ q, q < p ∧ a = nI q ∧ kd q = 10) ∧ ∃ q, q < p ∧ b = nI q) ∨
  (c = 13 ∧ ∃ q, q < p ∧ a = nI q) ∨
  (c = 14 ∧ ∃ q, q ≤ CC ∧ a = nI q)
def cr_code (CC AA N : Nat) (kd oA oB oC : Nat → Int32) : Prop := ∀ p, p < N → cr_ok CC AA p kd (kd p) (oA p) (oB p) (oC p)
def cr_ph (kd : Nat → Int32) : Nat → Bool := fun p => decide (kd p = 5)
def cr_f (g n : Nat) (kd oA oB : Nat → Int32) : Nat → Nat := fun p => (cr_row g n (kd p) (oA p) (oB p)).1
def cr_w1 (g n : Nat) (kd oA oB : Nat → Int32) : Nat → Int := fun p => (cr_row g n (kd p) (oA p) (oB p)).2.1
def cr_s (g n : Nat) (kd oA oB : Nat → Int32) : Nat → Nat := fun p => (cr_row g n (kd p) (oA p) (oB p)).2.2.1
def cr_w2 (g n : Nat) (kd oA oB : Nat → Int32) : Nat → Int := fun p => (cr_row g n (kd p) (oA p) (oB p)).2.2.2
def cr_rok (n p : Nat) (c : Int32) (r : Nat × Int × Nat × Int) : Prop :=
  ((r.1 < p ∧ -4 ≤ r.2.1 ∧ r.2.1 ≤ 4) ∨ (r.1 = 32 ∧ -15 ≤ r.2.1 ∧ r.2.1 ≤ 15) ∨ r.1 = 33) ∧
  (¬ c = 5 → (r.2.2.1 < p ∧ -4 ≤ r.2.2.2 ∧ r.2.2.2 ≤ 4) ∨ (r.2.2.1 = 32 ∧ -15 ≤ r.2.2.2 ∧ r.2.2.2 ≤ 15) ∨ r.2.2.1 = 33) ∧
  (c = 5 → r.2.1 = 0 ∧ r.2.2.2 = 0 ∧ r.1 < p ∧ (r.2.2.1 < n ∨ r.2.2.1 = 33))
theorem cr_sg_b {g : Nat} {x lo : Int} (h1 : -lo ≤ x) (h2 : x ≤ lo) : -lo ≤ cr_sg g * x ∧ cr_sg g * x ≤ lo := by
  unfold cr_sg
  split <;> omega
theorem cr_rok_of {CC AA N p g : Nat} {kd : Nat → Int32} {c a b d : Int32} (hC : CC ≤ 32) (hN : N ≤ CC) (hp : p < N) (h : cr_ok CC AA p kd c a b d) : cr_rok N p c (cr_row g N c a b) := by
  rcases h with ⟨rfl, h1, h2⟩ | ⟨rfl, k, hk, rfl⟩ | ⟨rfl, k, hk, rfl⟩ | ⟨hc, ⟨q, hq, rfl⟩, h1, h2⟩ | ⟨rfl, ⟨q, hq, rfl⟩, q2, hq2, rfl⟩ | ⟨hc, ⟨q, hq, rfl⟩, ⟨q2, hq2, rfl⟩, q3, hq3, rfl⟩ |
    ⟨rfl, ⟨q, hq, rfl⟩, k, hk, rfl⟩ | ⟨rfl, q, hq, rfl, hk⟩ | ⟨rfl, ⟨q, hq, rfl, hk⟩, q2, hq2, rfl⟩ | ⟨rfl, q, hq, rfl⟩ | ⟨rfl, q, hq, rfl⟩
  · rw [cr_r0]
    have := cr_sg_b (g := g) (lo := 15) (by omega) h2
    exact ⟨Or.inr (Or.inl ⟨rfl, this.1, this.2⟩), fun _ => Or.inr (Or.inr rfl), fun e => absurd e (by decide)⟩
  · rw [cr_r1]
    refine ⟨?_, fun _ => Or.inr (Or.inr rfl), fun e => absurd e (by decide)⟩
    dsimp only
    split
    · right; left; omega
    · right; right; rfl
  · rw [cr_r2]
    exact ⟨Or.inr (Or.inr rfl), fun _ => Or.inr (Or.inr rfl), fun e => absurd e (by decide)⟩
  · have hsg := cr_sg_b (g := g) (lo := 4) (by omega) h2
    rcases hc with rfl | rfl
    · rw [cr_r3]
      refine ⟨?_, fun _ => Or.inr (Or.inr rfl), fun e => absurd e (by decide)⟩
      dsimp only
      rw [nI_clamp (by omega)]
      exact Or.inl ⟨hq, hsg.1, hsg.2⟩
    · rw [cr_r4]
      refine ⟨?_, fun _ => Or.inr (Or.inr rfl), fun e => absurd e (by decide)⟩
      dsimp only
      rw [nI_clamp (by omega)]
      split
      · exact Or.inr (Or.inr rfl)
      · exact Or.inl ⟨hq, hsg.1, hsg.2⟩
  · rw [cr_r5]
    unfold cr_rok
    dsimp only
    rw [nI_clamp (by omega), nI_clamp (by omega)]
    refine ⟨Or.inl ⟨hq, by omega, by omega⟩, fun e => absurd rfl e, fun _ => ⟨rfl, rfl, hq, ?_⟩⟩
    split
    · left; omega
    · right; rfl
  · rcases hc with rfl | rfl | rfl | rfl
    · rw [cr_r6]
      unfold cr_rok
      dsimp only
      rw [nI_clamp (by omega), nI_clamp (by omega)]
      refine ⟨Or.inl ⟨hq, by omega, by omega⟩, fun _ => ?_, fun e => absurd e (by decide)⟩
      split <;> omega
    · rw [cr_r7]
      unfold cr_rok
      dsimp only
      rw [nI_clamp (by omega), nI_clamp (by omega)]
      refine ⟨Or.inl ⟨hq, by omega, by omega⟩, fun _ => ?_, fun e => absurd e (by decide)⟩
      split <;> omega
    · rw [cr_r8]
      unfold cr_rok
      dsimp only
      rw [nI_clamp (by omega), nI_clamp (by omega)]
      refine ⟨Or.inl ⟨hq, by omega, by omega⟩, fun _ => ?_, fun e => absurd e (by decide)⟩
      split <;> omega
    · rw [cr_r9]
      unfold cr_rok
      dsimp only
      rw [nI_clamp (by omega), nI_clamp (by omega)]
      refine ⟨Or.inl ⟨hq, by omega, by omega⟩, fun _ => ?_, fun e => absurd e (by decide)⟩
      split <;> omega
  · rw [cr_r10]
    unfold cr_rok
    dsimp only
    rw [nI_clamp (n := q) (by omega)]
    refine ⟨Or.inl ⟨hq, by omega, by omega⟩, fun _ => ?_, fun e => absurd e (by decide)⟩
    split
    · right; left
      refine ⟨rfl, ?_⟩
      split
      · omega
      · split <;> omega
    · right; right; rfl
  · rw [cr_r11]
    exact ⟨Or.inr (Or.inr rfl), fun _ => Or.inr (Or.inr rfl), fun e => absurd e (by decide)⟩
  · rw [cr_r12]
    exact ⟨Or.inr (Or.inr rfl), fun _ => Or.inr (Or.inr rfl), fun e => absurd e (by decide)⟩
  · rw [cr_r13]
    exact ⟨Or.inr (Or.inr rfl), fun _ => Or.inr (Or.inr rfl), fun e => absurd e (by decide)⟩
  · rw [cr_r14]
    exact ⟨Or.inr (Or.inr rfl), fun _ => Or.inr (Or.inr rfl), fun e => absurd e (by decide)⟩
theorem cr_G {CC AA N g : Nat} {kd oA oB oC : Nat → Int32} (hC : CC ≤ 32) (hN : N ≤ CC) (h : cr_code CC AA N kd oA oB oC) :
    bm_G N (cr_ph kd) (cr_f g N kd oA oB) (cr_s g N kd oA oB) (cr_w1 g N kd oA oB) (cr_w2 g N kd oA oB) := by
  intro p hp
  obtain ⟨h1, h2, h3⟩ := cr_rok_of (g := g) hC hN hp (h p hp)
  refine ⟨h1, fun e => h2 ?_, fun e => h3 ?_⟩
  · unfold cr_ph at e
    exact of_decide_eq_false e
  · unfold cr_ph at e
    exact of_decide_eq_true e
/-- the least solution of graph g over the code -/
def cr_L (g N : Nat) (kd oA oB : Nat → Int32) (b : Nat → Int) : Prop :=
  bm_L N (cr_ph kd) (cr_f g N kd oA oB) (cr_s g N kd oA oB) (cr_w1 g N kd oA oB) (cr_w2 g N kd oA oB) b
theorem cr_L_one {g N : Nat} {kd oA oB : Nat → Int32} {b c : Nat → Int} (hb : cr_L g N kd oA oB b) (hc : cr_L g N kd oA oB c) : ∀ u, u < N → b u = c u := by
  intro u hu
  have h1 := hb.2.2.2 c hc.1.1 hc.1.2.1 (fun v hv => Int.le_of_eq (hc.2.2.1 v hv).symm) u hu
  have h2 := hc.2.2.2 b hb.1.1 hb.1.2.1 (fun v hv => Int.le_of_eq (hb.2.2.1 v hv).symm) u hu
  omega
end CR
end
section
section XB
/-! the component: extend, evaluate, sweep, settle, improve -/
def xb_T (N : Nat) (ph : Nat → Bool) (f s : Nat → Nat) (w1 w2 : Nat → Int) (kd fi fw se sw : Nat → Int32) : Prop :=
  ∀ p, p < N → (ph p = true ↔ kd p = 5) ∧ fi p = nI (f p) ∧ (fw p).toInt = w1 p ∧ se p = nI (s p) ∧ (sw p).toInt = w2 p
def xb_S (N : Nat) (t : Nat → Bool) (ts : Nat → Int32) : Prop := ∀ p, p < N → (t p = true ↔ ¬ ts p = 0)
def xb_b (N g : Nat) (bd : Nat → Int32) (b : Nat → Int) : Prop := ∀ q, (q < N ∨ q = 32 ∨ q = 33) → (bd (34 * g + q)).toInt = b q
def xb_fr (g : Nat) (bd bd' : Nat → Int32) : Prop := ∀ i, (i < 34 * g ∨ 34 * g + 34 ≤ i) → bd' i = bd i
theorem xb_fr_t {g : Nat} {a b c : Nat → Int32} (h1 : xb_fr g a b) (h2 : xb_fr g b c) : xb_fr g a c := fun i hi => (h2 i hi).trans (h1 i hi)
theorem xb_fr_r {g : Nat} {a : Nat → Int32} : xb_fr g a a := fun _ _ => rfl
theorem xb_fr_u {g q : Nat} {a : Nat → Int32} {x : Int32} (hq : q < 34) : xb_fr g a (upd a (34 * g + q) x) := fun i hi => pk_un (by omega)
theorem xb_b_u {N g q : Nat} {bd : Nat → Int32} {b : Nat → Int} {x : Int32} {z : Int} (hb : xb_b N g bd b) (hx : x.toInt = z) : xb_b N g (upd bd (34 * g + q) x) (bm_up b q z) := by
  intro v hv
  by_cases e : v = q
  · subst e; rw [pk_us, bm_up_s]; exact hx
  · rw [pk_un (by omega), bm_up_n e]; exact hb v hv
variable {lg og tp vt iv ce ac fn : Int32} {kd oA oB oC ln ip sa pc fl bh vl el ou oc bv so bd fi fw se sw ts : Nat → Int32}
variable {N g : Nat} {ph : Nat → Bool} {f s : Nat → Nat} {w1 w2 : Nat → Int} {t : Nat → Bool}
theorem xb_ext {x w : Int32} {a c : Int} (hx : x.toInt = a) (hw : w.toInt = c) (h : a = 100000 ∨ (-90000 ≤ a ∧ a ≤ 90000 ∧ -15 ≤ c ∧ c ≤ 15)) :
    ∃ r : Int32, r.toInt = bm_ex a c ∧ ∀ post : Int32 → Prop, post r → wpX_extend post (lg, og, tp, vt, iv, ce, ac, fn, kd, oA, oB, oC, ln, ip, sa, pc, fl, bh, vl, el, ou, oc, bv, so, bd, fi, fw, se, sw, ts) x w := by
  rcases h with h | ⟨h1, h2, h3, h4⟩
  · refine ⟨100000, ?_, fun post hp => ?_⟩
    · rw [bm_ex_top (by omega)]; exact qn_inf
    · exact br_f (by rw [qn_lt, hx, qn_inf]; omega) hp
  · refine ⟨x + w, ?_, fun post hp => ?_⟩
    · rw [bm_ex_eq (by omega) (by omega)]; exact qn_add hx hw (by omega) (by omega)
    · exact br_t (by rw [qn_lt, hx, qn_inf]; omega) hp
theorem xb_edge {b : Nat → Int} {k v : Nat} {w : Int} (hk : k ≤ 5000) (hB : bm_B N b) (hR : bm_R N k b)
    (h : (v < N ∧ -4 ≤ w ∧ w ≤ 4) ∨ (v = 32 ∧ -15 ≤ w ∧ w ≤ 15) ∨ v = 33) : b v = 100000 ∨ (-90000 ≤ b v ∧ b v ≤ 90000 ∧ -15 ≤ w ∧ w ≤ 15) := by
  rcases h with ⟨h, h1, h2⟩ | ⟨rfl, h1, h2⟩ | rfl
  · rcases hR v (Or.inl h) with h3 | h3
    · exact Or.inl h3
    · right; omega
  · right; have := hB.1; omega
  · exact Or.inl hB.2.1
theorem xb_edges (hG : bm_G N ph f s w1 w2) {b : Nat → Int} {k p : Nat} (hk : k ≤ 5000) (hB : bm_B N b) (hR : bm_R N k b) (hp : p < N) :
    (b (f p) = 100000 ∨ (-90000 ≤ b (f p) ∧ b (f p) ≤ 90000 ∧ -15 ≤ w1 p ∧ w1 p ≤ 15)) ∧ (b (s p) = 100000 ∨ (-90000 ≤ b (s p) ∧ b (s p) ≤ 90000 ∧ -15 ≤ w2 p ∧ w2 p ≤ 15)) := by
  obtain ⟨g1, g2, g3⟩ := hG p hp
  refine ⟨xb_edge hk hB hR (by omega), xb_edge hk hB hR ?_⟩
  by_cases hq : ph p = true
  · have := g3 hq; omega
  · have := g2 (bm_bf hq); omega
theorem xb_eval (hN : N ≤ 32) (hg : g < 4) (hG : bm_G N ph f s w1 w2) (hT : xb_T N ph f s w1 w2 kd fi fw se sw) (hS : xb_S N t ts) {b : Nat → Int} {k p : Nat} (hk : k ≤ 5000)
    (hB : bm_B N b) (hR : bm_R N k b) (hb : xb_b N g bd b) (hp : p < N) :
    ∃ r : Int32, r.toInt = bm_ev ph f s w1 w2 t b p ∧ ∀ post : Int32 → Prop, post r → wpX_evaluate post (lg, og, tp, vt, iv, ce, ac, fn, kd, oA, oB, oC, ln, ip, sa, pc, fl, bh, vl, el, ou, oc, bv, so, bd, fi, fw, se, sw, ts) (nI (34 * g)) (nI p) := by
  obtain ⟨hph, hfi, hfw, hse, hsw⟩ := hT p hp
  have hv := bm_vert hG hp
  have he := xb_edges hG hk hB hR hp
  have i1 : vp_in (nI p) 32 := vp_in_nI (by omega) (by omega)
  have cl : (nI p).toNatClampNeg = p := nI_clamp (by omega)
  have j1 : nI (34 * g) + fi p = nI (34 * g + f p) := by rw [hfi, nI_add]
  have j2 : nI (34 * g) + se p = nI (34 * g + s p) := by rw [hse, nI_add]
  have v1 : vp_in (nI (34 * g + f p)) 136 := vp_in_nI (by omega) (by omega)
  have v2 : vp_in (nI (34 * g + s p)) 136 := vp_in_nI (by omega) (by omega)
  have c1 : (nI (34 * g + f p)).toNatClampNeg = 34 * g + f p := nI_clamp (by omega)
  have c2 : (nI (34 * g + s p)).toNatClampNeg = 34 * g + s p := nI_clamp (by omega)
  obtain ⟨r1, e1, k1⟩ := xb_ext (lg := lg) (og := og) (tp := tp) (vt := vt) (iv := iv) (ce := ce) (ac := ac) (fn := fn) (kd := kd) (oA := oA) (oB := oB) (oC := oC) (ln := ln) (ip := ip) (sa := sa) (pc := pc) (fl := fl) (bh := bh) (vl := vl) (el := el) (ou := ou) (oc := oc) (bv := bv) (so := so) (bd := bd) (fi := fi) (fw := fw) (se := se) (sw := sw) (ts := ts) (hb (f p) hv.1) hfw he.1
  obtain ⟨r2, e2, k2⟩ := xb_ext (lg := lg) (og := og) (tp := tp) (vt := vt) (iv := iv) (ce := ce) (ac := ac) (fn := fn) (kd := kd) (oA := oA) (oB := oB) (oC := oC) (ln := ln) (ip := ip) (sa := sa) (pc := pc) (fl := fl) (bh := bh) (vl := vl) (el := el) (ou := ou) (oc := oc) (bv := bv) (so := so) (bd := bd) (fi := fi) (fw := fw) (se := se) (sw := sw) (ts := ts) (hb (s p) hv.2) hsw he.2
  have walk : ∀ post : Int32 → Prop, ((kd p = 5 → (vp_in (nI p) 32 ∧ ((ts p = 0 → post r1) ∧ (¬ ts p = 0 → post r2)))) ∧ (¬ kd p = 5 → ((r2 ≤ r1 → post r2) ∧ (¬ r2 ≤ r1 → post r1)))) →
      wpX_evaluate post (lg, og, tp, vt, iv, ce, ac, fn, kd, oA, oB, oC, ln, ip, sa, pc, fl, bh, vl, el, ou, oc, bv, so, bd, fi, fw, se, sw, ts) (nI (34 * g)) (nI p) := by
    intro post h
    unfold wpX_evaluate
    (try dsimp only)
    rw [cl, j1, j2, c1, c2]
    exact ⟨i1, v1, i1, k1 _ ⟨i1, v2, i1, k2 _ ⟨i1, h⟩⟩⟩
  by_cases hq : ph p = true
  · by_cases ht : t p = true
    · refine ⟨r2, ?_, fun post h => walk post (br_t (hph.mp hq) ⟨i1, br_f ((hS p hp).mp ht) h⟩)⟩
      unfold bm_ev
      rw [if_pos hq, if_pos ht, e2]
    · refine ⟨r1, ?_, fun post h => walk post (br_t (hph.mp hq) ⟨i1, br_t (Classical.byContradiction fun hz => ht ((hS p hp).mpr hz)) h⟩)⟩
      unfold bm_ev
      rw [if_pos hq, if_neg ht, e1]
  · have h5 : ¬ kd p = 5 := fun h => hq (hph.mpr h)
    by_cases hc : bm_ex (b (s p)) (w2 p) ≤ bm_ex (b (f p)) (w1 p)
    · refine ⟨r2, ?_, fun post h => walk post (br_f h5 (br_t (by rw [qn_le, e1, e2]; exact hc) h))⟩
      unfold bm_ev
      rw [if_neg hq, if_pos hc, e2]
    · refine ⟨r1, ?_, fun post h => walk post (br_f h5 (br_f (by rw [qn_le, e1, e2]; exact hc) h))⟩
      unfold bm_ev
      rw [if_neg hq, if_neg hc, e1]
end XB
end
section
section XB2
variable {lg og tp vt iv ce ac fn : Int32} {kd oA oB oC ln ip sa pc fl bh vl el ou oc bv so bd fi fw se sw ts : Nat → Int32}
variable {N g : Nat} {ph : Nat → Bool} {f s : Nat → Nat} {w1 w2 : Nat → Int} {t : Nat → Bool}
theorem xb_nar01 {x : Int32} (h : x = 0 ∨ x = 1) : narrow .boolean (.int x) = .int x := by
  rcases h with rfl | rfl
  · exact narrow_b0
  · exact narrow_b1
theorem xb_sweepL (hN : N ≤ 32) (hg : g < 4) (hG : bm_G N ph f s w1 w2) (hT : xb_T N ph f s w1 w2 kd fi fw se sw) (hS : xb_S N t ts) {b : Nat → Int} {k : Nat} (hk : k ≤ 4000)
    (hB : bm_B N b) (hR : bm_R N k b) :
    ∀ (d p : Nat) (bd : Nat → Int32), p + d = N → xb_b N g bd (bm_sw (bm_ev ph f s w1 w2 t) p b) →
      ∃ bd', xb_b N g bd' (bm_sw (bm_ev ph f s w1 w2 t) N b) ∧ xb_fr g bd bd' ∧ ∀ post : Int32 → SX → Prop, post (bm_ch (bm_ev ph f s w1 w2 t) N b) (lg, og, tp, vt, iv, ce, ac, nI N, kd, oA, oB, oC, ln, ip, sa, pc, fl, bh, vl, el, ou, oc, bv, so, bd', fi, fw, se, sw, ts) →
        wX_sweep_4 post (nI (34 * g)) lg og tp vt iv ce ac (nI N) (d + 1) (bm_ch (bm_ev ph f s w1 w2 t) p b) (nI p) kd oA oB oC ln ip sa pc fl bh vl el ou oc bv so bd fi fw se sw ts := by
  intro d
  induction d with
  | zero =>
    intro p bd hpd hb
    have e : p = N := by omega
    subst e
    exact ⟨bd, hb, xb_fr_r, fun post hp => br_t (nI_le (Nat.le_refl p) (by omega)) ⟨xb_nar01 (bm_ch_01 b p), hp⟩⟩
  | succ d ih =>
    intro p bd hpd hb
    have hp : p < N := by omega
    have hB2 := bm_sw_B (ev := bm_ev ph f s w1 w2 t) hN hB p (by omega)
    have hR2 := bm_R_sw (t := t) hN hG hk hB hR p (by omega)
    obtain ⟨r, er, kr⟩ := xb_eval (lg := lg) (og := og) (tp := tp) (vt := vt) (iv := iv) (ce := ce) (ac := ac) (fn := nI N) (kd := kd) (oA := oA) (oB := oB) (oC := oC) (ln := ln) (ip := ip) (sa := sa) (pc := pc) (fl := fl) (bh := bh) (vl := vl) (el := el) (ou := ou) (oc := oc) (bv := bv) (so := so) (bd := bd) (fi := fi) (fw := fw) (se := se) (sw := sw) (ts := ts) hN hg hG hT hS (by omega) hB2 hR2 hb hp
    have j : nI (34 * g) + nI p = nI (34 * g + p) := nI_add _ _
    have v : vp_in (nI (34 * g + p)) 136 := vp_in_nI (by omega) (by omega)
    have c : (nI (34 * g + p)).toNatClampNeg = 34 * g + p := nI_clamp (by omega)
    have hbp := hb p (Or.inl hp)
    have hnot : ¬ nI N ≤ nI p := nI_ge (by omega) (by omega)
    by_cases hc : bm_ev ph f s w1 w2 t (bm_sw (bm_ev ph f s w1 w2 t) p b) p < bm_sw (bm_ev ph f s w1 w2 t) p b p
    · have e1 : bm_ch (bm_ev ph f s w1 w2 t) (p + 1) b = 1 := if_pos hc
      have e2 : bm_sw (bm_ev ph f s w1 w2 t) (p + 1) b = bm_up (bm_sw (bm_ev ph f s w1 w2 t) p b) p (bm_ev ph f s w1 w2 t (bm_sw (bm_ev ph f s w1 w2 t) p b) p) := if_pos hc
      obtain ⟨bd', h1, h2, h3⟩ := ih (p + 1) (upd bd (34 * g + p) r) (by omega) (by rw [e2]; exact xb_b_u hb er)
      refine ⟨bd', h1, xb_fr_t (xb_fr_u (by omega)) h2, fun post hpost => br_f hnot (kr _ ?_)⟩
      have h4 := h3 post hpost
      rw [e1] at h4
      (try dsimp only)
      rw [j, c]
      exact ⟨v, br_f (by rw [qn_le, hbp, er]; omega) ⟨v, nm_e (nm_r (nI_1 p) h4)⟩⟩
    · have e1 : bm_ch (bm_ev ph f s w1 w2 t) (p + 1) b = bm_ch (bm_ev ph f s w1 w2 t) p b := if_neg hc
      have e2 : bm_sw (bm_ev ph f s w1 w2 t) (p + 1) b = bm_sw (bm_ev ph f s w1 w2 t) p b := if_neg hc
      obtain ⟨bd', h1, h2, h3⟩ := ih (p + 1) bd (by omega) (by rw [e2]; exact hb)
      refine ⟨bd', h1, h2, fun post hpost => br_f hnot (kr _ ?_)⟩
      have h4 := h3 post hpost
      rw [e1] at h4
      (try dsimp only)
      rw [j, c]
      exact ⟨v, br_t (by rw [qn_le, hbp, er]; omega) (nm_r (nI_1 p) h4)⟩
theorem xb_sweep (hN : N ≤ 32) (hg : g < 4) (hG : bm_G N ph f s w1 w2) (hT : xb_T N ph f s w1 w2 kd fi fw se sw) (hS : xb_S N t ts) {b : Nat → Int} {k : Nat} (hk : k ≤ 4000)
    (hB : bm_B N b) (hR : bm_R N k b) (hb : xb_b N g bd b) :
      ∃ bd', xb_b N g bd' (bm_sw (bm_ev ph f s w1 w2 t) N b) ∧ xb_fr g bd bd' ∧ ∀ post : Int32 → SX → Prop, post (bm_ch (bm_ev ph f s w1 w2 t) N b) (lg, og, tp, vt, iv, ce, ac, nI N, kd, oA, oB, oC, ln, ip, sa, pc, fl, bh, vl, el, ou, oc, bv, so, bd', fi, fw, se, sw, ts) →
        wpX_sweep post (lg, og, tp, vt, iv, ce, ac, nI N, kd, oA, oB, oC, ln, ip, sa, pc, fl, bh, vl, el, ou, oc, bv, so, bd, fi, fw, se, sw, ts) (nI (34 * g)) := by
  obtain ⟨bd', h1, h2, h3⟩ := xb_sweepL (lg := lg) (og := og) (tp := tp) (vt := vt) (iv := iv) (ce := ce) (ac := ac) (kd := kd) (oA := oA) (oB := oB) (oC := oC) (ln := ln) (ip := ip) (sa := sa) (pc := pc) (fl := fl) (bh := bh) (vl := vl) (el := el) (ou := ou) (oc := oc) (bv := bv) (so := so) (fi := fi) (fw := fw) (se := se) (sw := sw) (ts := ts) hN hg hG hT hS hk hB hR N 0 bd (by omega) hb
  exact ⟨bd', h1, h2, fun post hp => ⟨N + 1, h3 post hp⟩⟩
/-! settle -/
def xb_in (k : Nat) (b : Nat → Int) : Nat → Int := fun q => if q < k then 100000 else b q
theorem xb_iniL (hN : N ≤ 32) (hg : g < 4) {b : Nat → Int} :
    ∀ (d p : Nat) (bd : Nat → Int32), p + d = N → xb_b N g bd (xb_in p b) →
      ∃ bd', xb_b N g bd' (xb_in N b) ∧ xb_fr g bd bd' ∧ ∀ post : SX → Prop, (∃ n30 : Nat, wX_settle_30 post (nI (34 * g)) n30 1 0 lg og tp vt iv ce ac (nI N) kd oA oB oC ln ip sa pc fl bh vl el ou oc bv so bd' fi fw se sw ts) →
        wX_settle_2 post (nI (34 * g)) lg og tp vt iv ce ac (nI N) (d + 1) (nI p) kd oA oB oC ln ip sa pc fl bh vl el ou oc bv so bd fi fw se sw ts := by
  intro d
  induction d with
  | zero =>
    intro p bd hpd hb
    have e : p = N := by omega
    subst e
    exact ⟨bd, hb, xb_fr_r, fun post hp => br_t (nI_le (Nat.le_refl p) (by omega)) hp⟩
  | succ d ih =>
    intro p bd hpd hb
    have hp : p < N := by omega
    have j : nI (34 * g) + nI p = nI (34 * g + p) := nI_add _ _
    have v : vp_in (nI (34 * g + p)) 136 := vp_in_nI (by omega) (by omega)
    have c : (nI (34 * g + p)).toNatClampNeg = 34 * g + p := nI_clamp (by omega)
    have e2 : xb_in (p + 1) b = bm_up (xb_in p b) p 100000 := by
      funext q
      show (if q < p + 1 then (100000 : Int) else b q) = (if q = p then 100000 else (if q < p then 100000 else b q))
      by_cases e : q = p
      · rw [if_pos (by omega), if_pos e]
      · rw [if_neg e]
        by_cases h : q < p
        · rw [if_pos (by omega), if_pos h]
        · rw [if_neg (by omega), if_neg h]
    obtain ⟨bd', h1, h2, h3⟩ := ih (p + 1) (upd bd (34 * g + p) 100000) (by omega) (by rw [e2]; exact xb_b_u hb qn_inf)
    refine ⟨bd', h1, xb_fr_t (xb_fr_u (by omega)) h2, fun post hpost => br_f (nI_ge (by omega) (by omega)) ?_⟩
    rw [j, c]
    exact ⟨v, nm_e (nm_r (nI_1 p) (h3 post hpost))⟩
theorem xb_settleL (hN : N ≤ 32) (hg : g < 4) (hG : bm_G N ph f s w1 w2) (hT : xb_T N ph f s w1 w2 kd fi fw se sw) (hS : xb_S N t ts) {b c : Nat → Int}
    (hB : bm_B N b) (hi : ∀ u, u < N → b u = 100000) (hc : bm_B N c)
    (hs1 : ∀ r, bm_ch (bm_ev ph f s w1 w2 t) N (bm_it (bm_ev ph f s w1 w2 t) N r b) = 0 → ∀ u, u < N → bm_it (bm_ev ph f s w1 w2 t) N (r + 1) b u = c u)
    (hs2 : ∀ r, N ≤ r → ∀ u, u < N → bm_it (bm_ev ph f s w1 w2 t) N r b u = c u) :
    ∀ (d r : Nat) (bd : Nat → Int32) (x : Int32), r + d = N + 1 → xb_b N g bd (bm_it (bm_ev ph f s w1 w2 t) N r b) → (x = 1 ∨ (x = 0 ∧ ∀ u, u < N → bm_it (bm_ev ph f s w1 w2 t) N r b u = c u)) →
      ∃ bd', xb_b N g bd' c ∧ xb_fr g bd bd' ∧ ∀ post : SX → Prop, post (lg, og, tp, vt, iv, ce, ac, nI N, kd, oA, oB, oC, ln, ip, sa, pc, fl, bh, vl, el, ou, oc, bv, so, bd', fi, fw, se, sw, ts) → wX_settle_30 post (nI (34 * g)) (d + 1) x (nI r) lg og tp vt iv ce ac (nI N) kd oA oB oC ln ip sa pc fl bh vl el ou oc bv so bd fi fw se sw ts := by
  have fin : ∀ (r : Nat) (bd : Nat → Int32), xb_b N g bd (bm_it (bm_ev ph f s w1 w2 t) N r b) → (∀ u, u < N → bm_it (bm_ev ph f s w1 w2 t) N r b u = c u) → xb_b N g bd c := by
    intro r bd hb h q hq
    rw [hb q hq]
    have hBr := bm_it_B (ev := bm_ev ph f s w1 w2 t) hN hB r
    rcases hq with hq | rfl | rfl
    · exact h q hq
    · rw [hBr.1, hc.1]
    · rw [hBr.2.1, hc.2.1]
  intro d
  induction d with
  | zero =>
    intro r bd x hr hb hx
    exact ⟨bd, fin r bd hb (hs2 r (by omega)), xb_fr_r, fun post hp => br_t (nI_lt (by omega) (by omega)) hp⟩
  | succ d ih =>
    intro r bd x hr hb hx
    have hnot : ¬ nI N < nI r := nI_nlt (by omega) (by omega)
    rcases hx with rfl | ⟨rfl, hx⟩
    · obtain ⟨bd1, h1, h2, h3⟩ := xb_sweep (lg := lg) (og := og) (tp := tp) (vt := vt) (iv := iv) (ce := ce) (ac := ac) (kd := kd) (oA := oA) (oB := oB) (oC := oC) (ln := ln) (ip := ip) (sa := sa) (pc := pc) (fl := fl) (bh := bh) (vl := vl) (el := el) (ou := ou) (oc := oc) (bv := bv) (so := so) (bd := bd) (fi := fi) (fw := fw) (se := se) (sw := sw) (ts := ts) hN hg hG hT hS (k := 32 * r) (by omega) (bm_it_B (ev := bm_ev ph f s w1 w2 t) hN hB r) (bm_R_it (t := t) hN hG hB hi r (by omega)) hb
      have hx2 : bm_ch (bm_ev ph f s w1 w2 t) N (bm_it (bm_ev ph f s w1 w2 t) N r b) = 1 ∨ (bm_ch (bm_ev ph f s w1 w2 t) N (bm_it (bm_ev ph f s w1 w2 t) N r b) = 0 ∧ ∀ u, u < N → bm_it (bm_ev ph f s w1 w2 t) N (r + 1) b u = c u) := by
        rcases bm_ch_01 (ev := bm_ev ph f s w1 w2 t) (bm_it (bm_ev ph f s w1 w2 t) N r b) N with h | h
        · exact Or.inr ⟨h, hs1 r h⟩
        · exact Or.inl h
      obtain ⟨bd', h4, h5, h6⟩ := ih (r + 1) bd1 _ (by omega) h1 hx2
      refine ⟨bd', h4, xb_fr_t h2 h5, fun post hp => br_f hnot (br_f (by decide) (h3 _ ?_))⟩
      exact nm_r (nI_1 r) (h6 post hp)
    · exact ⟨bd, fin r bd hb hx, xb_fr_r, fun post hp => br_f hnot (br_t rfl hp)⟩
theorem xb_settle (hN : N ≤ 32) (hg : g < 4) (hG : bm_G N ph f s w1 w2) (hT : xb_T N ph f s w1 w2 kd fi fw se sw) (hS : xb_S N t ts) {b0 c : Nat → Int}
    (hb : xb_b N g bd b0) (h32 : b0 32 = 0) (h33 : b0 33 = 100000) (hc : bm_B N c)
    (hs1 : ∀ r, bm_ch (bm_ev ph f s w1 w2 t) N (bm_it (bm_ev ph f s w1 w2 t) N r (xb_in N b0)) = 0 → ∀ u, u < N → bm_it (bm_ev ph f s w1 w2 t) N (r + 1) (xb_in N b0) u = c u)
    (hs2 : ∀ r, N ≤ r → ∀ u, u < N → bm_it (bm_ev ph f s w1 w2 t) N r (xb_in N b0) u = c u) :
      ∃ bd', xb_b N g bd' c ∧ xb_fr g bd bd' ∧ ∀ post : SX → Prop, post (lg, og, tp, vt, iv, ce, ac, nI N, kd, oA, oB, oC, ln, ip, sa, pc, fl, bh, vl, el, ou, oc, bv, so, bd', fi, fw, se, sw, ts) → wpX_settle post (lg, og, tp, vt, iv, ce, ac, nI N, kd, oA, oB, oC, ln, ip, sa, pc, fl, bh, vl, el, ou, oc, bv, so, bd, fi, fw, se, sw, ts) (nI (34 * g)) := by
  have hz : xb_b N g bd (xb_in 0 b0) := hb
  obtain ⟨bd1, h1, h2, h3⟩ := xb_iniL (lg := lg) (og := og) (tp := tp) (vt := vt) (iv := iv) (ce := ce) (ac := ac) (kd := kd) (oA := oA) (oB := oB) (oC := oC) (ln := ln) (ip := ip) (sa := sa) (pc := pc) (fl := fl) (bh := bh) (vl := vl) (el := el) (ou := ou) (oc := oc) (bv := bv) (so := so) (fi := fi) (fw := fw) (se := se) (sw := sw) (ts := ts) hN hg N 0 bd (by omega) hz
  have hi : ∀ u, u < N → xb_in N b0 u = 100000 := fun u hu => if_pos hu
  have hB : bm_B N (xb_in N b0) := ⟨by rw [show xb_in N b0 32 = b0 32 from if_neg (by omega)]; exact h32, by rw [show xb_in N b0 33 = b0 33 from if_neg (by omega)]; exact h33, fun u hu => by rw [hi u hu]; omega⟩
  obtain ⟨bd', h4, h5, h6⟩ := xb_settleL (lg := lg) (og := og) (tp := tp) (vt := vt) (iv := iv) (ce := ce) (ac := ac) (kd := kd) (oA := oA) (oB := oB) (oC := oC) (ln := ln) (ip := ip) (sa := sa) (pc := pc) (fl := fl) (bh := bh) (vl := vl) (el := el) (ou := ou) (oc := oc) (bv := bv) (so := so) (fi := fi) (fw := fw) (se := se) (sw := sw) (ts := ts) hN hg hG hT hS hB hi hc hs1 hs2 (N + 1) 0 bd1 1 (by omega) h1 (Or.inl rfl)
  exact ⟨bd', h4, xb_fr_t h2 h5, fun post hp => ⟨N + 1, h3 post ⟨N + 1 + 1, h6 post hp⟩⟩⟩
end XB2
end
section
section XC
/-! the component: improve, describe, solve -/
variable {lg og tp vt iv ce ac fn : Int32} {kd oA oB oC ln ip sa pc fl bh vl el ou oc bv so bd fi fw se sw ts : Nat → Int32}
variable {N g : Nat} {ph : Nat → Bool} {f s : Nat → Nat} {w1 w2 : Nat → Int} {t : Nat → Bool}
def xc_turn (ph : Nat → Bool) (f s : Nat → Nat) (t : Nat → Bool) (b : Nat → Int) (q : Nat) : Prop := ph q = true ∧ b q < b (if t q = true then f q else s q)
def xc_mix (ph : Nat → Bool) (f s : Nat → Nat) (t : Nat → Bool) (b : Nat → Int) (k : Nat) : Nat → Bool := fun q => if q < k then bm_im ph f s t b q else t q
theorem xc_mix_f {b : Nat → Int} {p : Nat} (h : ¬ xc_turn ph f s t b p) : xc_mix ph f s t b (p + 1) = xc_mix ph f s t b p := by
  funext q
  unfold xc_mix
  by_cases e : q = p
  · subst e
    rw [if_pos (by omega), if_neg (by omega)]
    exact bm_im_f h
  · by_cases h2 : q < p
    · rw [if_pos (by omega), if_pos h2]
    · rw [if_neg (by omega), if_neg h2]
theorem xc_mix_t {b : Nat → Int} {p : Nat} {x : Int32} (h : xc_turn ph f s t b p) (hS : xb_S N (xc_mix ph f s t b p) ts) (hx : (!(t p)) = true ↔ ¬ x = 0) :
    xb_S N (xc_mix ph f s t b (p + 1)) (upd ts p x) := by
  intro q hq
  by_cases e : q = p
  · subst e
    rw [pk_us]
    unfold xc_mix
    rw [if_pos (by omega), bm_im_t h]
    exact hx
  · rw [pk_un e]
    have := hS q hq
    unfold xc_mix at this ⊢
    by_cases h2 : q < p
    · rw [if_pos h2] at this
      rw [if_pos (by omega)]; exact this
    · rw [if_neg h2] at this
      rw [if_neg (by omega)]; exact this
theorem xc_impL (hN : N ≤ 32) (hg : g < 4) (hG : bm_G N ph f s w1 w2) (hT : xb_T N ph f s w1 w2 kd fi fw se sw) {b : Nat → Int} (hb : xb_b N g bd b) :
    ∀ (d p : Nat) (ts : Nat → Int32) (x : Int32), p + d = N → xb_S N (xc_mix ph f s t b p) ts →
      ((x = 0 ∧ ∀ q, q < p → ¬ xc_turn ph f s t b q) ∨ (x = 1 ∧ ∃ q, q < p ∧ xc_turn ph f s t b q)) →
      ∃ (ts' : Nat → Int32) (x' : Int32), xb_S N (bm_im ph f s t b) ts' ∧ ((x' = 0 ∧ ¬ ∃ q, q < N ∧ xc_turn ph f s t b q) ∨ (x' = 1 ∧ ∃ q, q < N ∧ xc_turn ph f s t b q)) ∧
        ∀ post : Int32 → SX → Prop, post x' (lg, og, tp, vt, iv, ce, ac, nI N, kd, oA, oB, oC, ln, ip, sa, pc, fl, bh, vl, el, ou, oc, bv, so, bd, fi, fw, se, sw, ts') → wX_improve_4 post (nI (34 * g)) lg og tp vt iv ce ac (nI N) (d + 1) x (nI p) kd oA oB oC ln ip sa pc fl bh vl el ou oc bv so bd fi fw se sw ts := by
  intro d
  induction d with
  | zero =>
    intro p ts x hpd hS hx
    have e : p = N := by omega
    subst e
    refine ⟨ts, x, fun q hq => ?_, ?_, fun post hp => br_t (nI_le (Nat.le_refl p) (by omega)) ⟨xb_nar01 (hx.imp And.left And.left), hp⟩⟩
    · have := hS q hq
      unfold xc_mix at this
      rw [if_pos hq] at this
      exact this
    · rcases hx with ⟨h1, h2⟩ | h
      · exact Or.inl ⟨h1, fun ⟨q, hq, ht⟩ => h2 q hq ht⟩
      · exact Or.inr h
  | succ d ih =>
    intro p ts x hpd hS hx
    have hp : p < N := by omega
    obtain ⟨hph, hfi, hfw, hse, hsw⟩ := hT p hp
    have hv := bm_vert hG hp
    have i1 : vp_in (nI p) 32 := vp_in_nI (by omega) (by omega)
    have cl : (nI p).toNatClampNeg = p := nI_clamp (by omega)
    have hnot : ¬ nI N ≤ nI p := nI_ge (by omega) (by omega)
    have j0 : nI (34 * g) + nI p = nI (34 * g + p) := nI_add _ _
    have v0 : vp_in (nI (34 * g + p)) 136 := vp_in_nI (by omega) (by omega)
    have c0 : (nI (34 * g + p)).toNatClampNeg = 34 * g + p := nI_clamp (by omega)
    have hbp := hb p (Or.inl hp)
    have htp : t p = true ↔ ¬ ts p = 0 := by
      have := hS p hp
      unfold xc_mix at this
      rw [if_neg (by omega)] at this
      exact this
    have noturn : ¬ xc_turn ph f s t b p → ∃ (ts' : Nat → Int32) (x' : Int32), xb_S N (bm_im ph f s t b) ts' ∧ ((x' = 0 ∧ ¬ ∃ q, q < N ∧ xc_turn ph f s t b q) ∨ (x' = 1 ∧ ∃ q, q < N ∧ xc_turn ph f s t b q)) ∧
        ∀ post : Int32 → SX → Prop, post x' (lg, og, tp, vt, iv, ce, ac, nI N, kd, oA, oB, oC, ln, ip, sa, pc, fl, bh, vl, el, ou, oc, bv, so, bd, fi, fw, se, sw, ts') → wX_improve_4 post (nI (34 * g)) lg og tp vt iv ce ac (nI N) (d + 1) x (nI (p + 1)) kd oA oB oC ln ip sa pc fl bh vl el ou oc bv so bd fi fw se sw ts := by
      intro h
      refine ih (p + 1) ts x (by omega) (by rw [xc_mix_f h]; exact hS) ?_
      rcases hx with ⟨h1, h2⟩ | ⟨h1, q, hq, h2⟩
      · refine Or.inl ⟨h1, fun q hq => ?_⟩
        by_cases e : q = p
        · subst e; exact h
        · exact h2 q (by omega)
      · exact Or.inr ⟨h1, q, by omega, h2⟩
    have turn : ∀ y : Int32, ((!(t p)) = true ↔ ¬ y = 0) → xc_turn ph f s t b p → ∃ (ts' : Nat → Int32) (x' : Int32), xb_S N (bm_im ph f s t b) ts' ∧ ((x' = 0 ∧ ¬ ∃ q, q < N ∧ xc_turn ph f s t b q) ∨ (x' = 1 ∧ ∃ q, q < N ∧ xc_turn ph f s t b q)) ∧
        ∀ post : Int32 → SX → Prop, post x' (lg, og, tp, vt, iv, ce, ac, nI N, kd, oA, oB, oC, ln, ip, sa, pc, fl, bh, vl, el, ou, oc, bv, so, bd, fi, fw, se, sw, ts') → wX_improve_4 post (nI (34 * g)) lg og tp vt iv ce ac (nI N) (d + 1) 1 (nI (p + 1)) kd oA oB oC ln ip sa pc fl bh vl el ou oc bv so bd fi fw se sw (upd ts p y) := by
      intro y hy h
      exact ih (p + 1) (upd ts p y) 1 (by omega) (xc_mix_t h hS hy) (Or.inr ⟨rfl, p, by omega, h⟩)
    by_cases h5 : kd p = 5
    · have hq := hph.mpr h5
      by_cases hz : ts p = 0
      · have ht : ¬ t p = true := fun h => htp.mp h hz
        have j1 : nI (34 * g) + se p = nI (34 * g + s p) := by rw [hse, nI_add]
        have v1 : vp_in (nI (34 * g + s p)) 136 := vp_in_nI (by omega) (by omega)
        have c1 : (nI (34 * g + s p)).toNatClampNeg = 34 * g + s p := nI_clamp (by omega)
        have hbs := hb (s p) hv.2
        by_cases hc : b p < b (s p)
        · have hturn : xc_turn ph f s t b p := ⟨hq, by rw [if_neg ht]; exact hc⟩
          obtain ⟨ts', x', h1, h2, h3⟩ := turn 1 (by rw [bm_bf ht]; decide) hturn
          refine ⟨ts', x', h1, h2, fun post hpost => br_f hnot ?_⟩
          rw [cl]
          refine ⟨i1, br_t h5 ⟨i1, br_t hz ⟨i1, ?_⟩⟩⟩
          unfold wX_improve_46
          rw [j1, j0, c1, c0, cl, qn_vb1]
          exact ⟨v1, v0, br_f (by rw [qn_le, hbs, hbp]; omega) ⟨i1, br_t hz ⟨i1, nm_e (nm_r (nI_1 p) (h3 post hpost))⟩⟩⟩
        · obtain ⟨ts', x', h1, h2, h3⟩ := noturn (fun h => by have h4 := h.2; rw [if_neg ht] at h4; exact hc h4)
          refine ⟨ts', x', h1, h2, fun post hpost => br_f hnot ?_⟩
          rw [cl]
          refine ⟨i1, br_t h5 ⟨i1, br_t hz ⟨i1, ?_⟩⟩⟩
          unfold wX_improve_46
          rw [j1, j0, c1, c0]
          exact ⟨v1, v0, br_t (by rw [qn_le, hbs, hbp]; omega) (nm_r (nI_1 p) (h3 post hpost))⟩
      · have ht : t p = true := htp.mpr hz
        have j1 : nI (34 * g) + fi p = nI (34 * g + f p) := by rw [hfi, nI_add]
        have v1 : vp_in (nI (34 * g + f p)) 136 := vp_in_nI (by omega) (by omega)
        have c1 : (nI (34 * g + f p)).toNatClampNeg = 34 * g + f p := nI_clamp (by omega)
        have hbs := hb (f p) hv.1
        by_cases hc : b p < b (f p)
        · have hturn : xc_turn ph f s t b p := ⟨hq, by rw [if_pos ht]; exact hc⟩
          obtain ⟨ts', x', h1, h2, h3⟩ := turn 0 (by rw [ht]; decide) hturn
          refine ⟨ts', x', h1, h2, fun post hpost => br_f hnot ?_⟩
          rw [cl]
          refine ⟨i1, br_t h5 ⟨i1, br_f hz ⟨i1, ?_⟩⟩⟩
          unfold wX_improve_46
          rw [j1, j0, c1, c0, cl, qn_vb0]
          exact ⟨v1, v0, br_f (by rw [qn_le, hbs, hbp]; omega) ⟨i1, br_f hz ⟨i1, nm_e (nm_r (nI_1 p) (h3 post hpost))⟩⟩⟩
        · obtain ⟨ts', x', h1, h2, h3⟩ := noturn (fun h => by have h4 := h.2; rw [if_pos ht] at h4; exact hc h4)
          refine ⟨ts', x', h1, h2, fun post hpost => br_f hnot ?_⟩
          rw [cl]
          refine ⟨i1, br_t h5 ⟨i1, br_f hz ⟨i1, ?_⟩⟩⟩
          unfold wX_improve_46
          rw [j1, j0, c1, c0]
          exact ⟨v1, v0, br_t (by rw [qn_le, hbs, hbp]; omega) (nm_r (nI_1 p) (h3 post hpost))⟩
    · obtain ⟨ts', x', h1, h2, h3⟩ := noturn (fun h => h5 (hph.mp h.1))
      refine ⟨ts', x', h1, h2, fun post hpost => br_f hnot ?_⟩
      rw [cl]
      exact ⟨i1, br_f h5 (nm_r (nI_1 p) (h3 post hpost))⟩
theorem xc_improve (hN : N ≤ 32) (hg : g < 4) (hG : bm_G N ph f s w1 w2) (hT : xb_T N ph f s w1 w2 kd fi fw se sw) (hS : xb_S N t ts) {b : Nat → Int} (hb : xb_b N g bd b) :
      ∃ (ts' : Nat → Int32) (x' : Int32), xb_S N (bm_im ph f s t b) ts' ∧ ((x' = 0 ∧ ¬ ∃ q, q < N ∧ xc_turn ph f s t b q) ∨ (x' = 1 ∧ ∃ q, q < N ∧ xc_turn ph f s t b q)) ∧
        ∀ post : Int32 → SX → Prop, post x' (lg, og, tp, vt, iv, ce, ac, nI N, kd, oA, oB, oC, ln, ip, sa, pc, fl, bh, vl, el, ou, oc, bv, so, bd, fi, fw, se, sw, ts') → wpX_improve post (lg, og, tp, vt, iv, ce, ac, nI N, kd, oA, oB, oC, ln, ip, sa, pc, fl, bh, vl, el, ou, oc, bv, so, bd, fi, fw, se, sw, ts) (nI (34 * g)) := by
  have hS0 : xb_S N (xc_mix ph f s t b 0) ts := by
    intro q hq
    unfold xc_mix
    rw [if_neg (by omega)]
    exact hS q hq
  obtain ⟨ts', x', h1, h2, h3⟩ := xc_impL (lg := lg) (og := og) (tp := tp) (vt := vt) (iv := iv) (ce := ce) (ac := ac) (kd := kd) (oA := oA) (oB := oB) (oC := oC) (ln := ln) (ip := ip) (sa := sa) (pc := pc) (fl := fl) (bh := bh) (vl := vl) (el := el) (ou := ou) (oc := oc) (bv := bv) (so := so) (bd := bd) (fi := fi) (fw := fw) (se := se) (sw := sw) hN hg hG hT hb N 0 ts 0 (by omega) hS0 (Or.inl ⟨rfl, fun q hq => by omega⟩)
  exact ⟨ts', x', h1, h2, fun post hp => ⟨N + 1, h3 post hp⟩⟩
/-! the rounds -/
theorem xc_rounds (hN : N ≤ 32) (hg : g < 4) (hG : bm_G N ph f s w1 w2) (hT : xb_T N ph f s w1 w2 kd fi fw se sw) :
    ∀ (d r : Nat) (t : Nat → Bool) (bd ts : Nat → Int32) (b : Nat → Int), r + d = 10000 → xb_S N t ts → xb_b N g bd b → bm_Inv N ph f s w1 w2 t b r →
      ∃ (bd' ts' : Nat → Int32) (b' : Nat → Int), bm_L N ph f s w1 w2 b' ∧ xb_b N g bd' b' ∧ xb_fr g bd bd' ∧
        ∀ post : SX → Prop, post (lg, og, tp, vt, iv, ce, ac, nI N, kd, oA, oB, oC, ln, ip, sa, pc, fl, bh, vl, el, ou, oc, bv, so, bd', fi, fw, se, sw, ts') → wX_solve_62 post (nI (34 * g)) (d + 1) (nI r) lg og tp vt iv ce ac (nI N) kd oA oB oC ln ip sa pc fl bh vl el ou oc bv so bd fi fw se sw ts := by
  intro d
  induction d with
  | zero =>
    intro r t bd ts b hr hS hb hI
    have := bm_Inv_r hN hI
    omega
  | succ d ih =>
    intro r t bd ts b hr hS hb hI
    have hnot : ¬ (10000 : Int32) ≤ nI r := nI_ge (b := 10000) (by omega) (by omega)
    obtain ⟨ts1, x, h1, h2, h3⟩ := xc_improve (lg := lg) (og := og) (tp := tp) (vt := vt) (iv := iv) (ce := ce) (ac := ac) (kd := kd) (oA := oA) (oB := oB) (oC := oC) (ln := ln) (ip := ip) (sa := sa) (pc := pc) (fl := fl) (bh := bh) (vl := vl) (el := el) (ou := ou) (oc := oc) (bv := bv) (so := so) (bd := bd) (fi := fi) (fw := fw) (se := se) (sw := sw) (ts := ts) hN hg hG hT hS hb
    rcases h2 with ⟨rfl, h2⟩ | ⟨rfl, h2⟩
    · exact ⟨bd, ts1, b, bm_last hN hG hI h2, hb, xb_fr_r, fun post hp => br_f hnot (h3 _ (br_t rfl hp))⟩
    · have hB := hI.2.1
      have hi : ∀ u, u < N → xb_in N b u = 100000 := fun u hu => if_pos hu
      have hB0 : bm_B N (xb_in N b) := ⟨by rw [show xb_in N b 32 = b 32 from if_neg (by omega)]; exact hB.1, by rw [show xb_in N b 33 = b 33 from if_neg (by omega)]; exact hB.2.1, fun u hu => by rw [hi u hu]; omega⟩
      obtain ⟨c, hI2, hs1, hs2⟩ := bm_next hN hG hI h2 hB0 hi
      obtain ⟨bd1, h4, h5, h6⟩ := xb_settle (lg := lg) (og := og) (tp := tp) (vt := vt) (iv := iv) (ce := ce) (ac := ac) (kd := kd) (oA := oA) (oB := oB) (oC := oC) (ln := ln) (ip := ip) (sa := sa) (pc := pc) (fl := fl) (bh := bh) (vl := vl) (el := el) (ou := ou) (oc := oc) (bv := bv) (so := so) (bd := bd) (fi := fi) (fw := fw) (se := se) (sw := sw) (ts := ts1) hN hg hG hT h1 hb hB.1 hB.2.1 hI2.2.1 hs1 hs2
      obtain ⟨bd', ts', b', h7, h8, h9, h10⟩ := ih (r + 1) _ bd1 ts1 c (by omega) h1 h4 hI2
      exact ⟨bd', ts', b', h7, h8, xb_fr_t h5 h9, fun post hp => br_f hnot (h3 _ (br_f (by decide) (h6 _ (nm_r (nI_1 r) (h10 post hp)))))⟩
/-! describe -/
theorem xc_first {p : Nat} {v w : Int32} (hp : p < 32) {post : SX → Prop} (h : post (lg, og, tp, vt, iv, ce, ac, fn, kd, oA, oB, oC, ln, ip, sa, pc, fl, bh, vl, el, ou, oc, bv, so, bd, upd fi p v, upd fw p w, se, sw, ts)) : wpX_setFirst post (lg, og, tp, vt, iv, ce, ac, fn, kd, oA, oB, oC, ln, ip, sa, pc, fl, bh, vl, el, ou, oc, bv, so, bd, fi, fw, se, sw, ts) (nI p) v w := by
  have i1 : vp_in (nI p) 32 := vp_in_nI (by omega) (by omega)
  have cl : (nI p).toNatClampNeg = p := nI_clamp (by omega)
  unfold wpX_setFirst
  dsimp only
  rw [cl]
  exact ⟨i1, nm_e ⟨i1, nm_e h⟩⟩
theorem xc_second {p : Nat} {v w : Int32} (hp : p < 32) {post : SX → Prop} (h : post (lg, og, tp, vt, iv, ce, ac, fn, kd, oA, oB, oC, ln, ip, sa, pc, fl, bh, vl, el, ou, oc, bv, so, bd, fi, fw, upd se p v, upd sw p w, ts)) : wpX_setSecond post (lg, og, tp, vt, iv, ce, ac, fn, kd, oA, oB, oC, ln, ip, sa, pc, fl, bh, vl, el, ou, oc, bv, so, bd, fi, fw, se, sw, ts) (nI p) v w := by
  have i1 : vp_in (nI p) 32 := vp_in_nI (by omega) (by omega)
  have cl : (nI p).toNatClampNeg = p := nI_clamp (by omega)
  unfold wpX_setSecond
  dsimp only
  rw [cl]
  exact ⟨i1, nm_e ⟨i1, nm_e h⟩⟩
end XC
end
section
section XD
/-! the component: describe and solve -/
variable {lg og tp vt iv ce ac fn : Int32} {kd oA oB oC ln ip sa pc fl bh vl el ou oc bv so bd fi fw se sw ts : Nat → Int32}
variable {N g p CC AA : Nat}
def xd_dr (row : Nat × Int × Nat × Int) (p : Nat) (fi fw se sw fi' fw' se' sw' : Nat → Int32) : Prop :=
  (∀ q, q ≠ p → fi' q = fi q ∧ fw' q = fw q ∧ se' q = se q ∧ sw' q = sw q) ∧ fi' p = nI row.1 ∧ (fw' p).toInt = row.2.1 ∧ se' p = nI row.2.2.1 ∧ (sw' p).toInt = row.2.2.2
theorem xd_m0 : xd_dr (33, 0, 33, 0) p fi fw se sw (upd fi p 33) (upd fw p 0) (upd se p 33) (upd sw p 0) :=
  ⟨fun q hq => ⟨pk_un hq, pk_un hq, pk_un hq, pk_un hq⟩, pk_us, by rw [pk_us]; exact qn_0, pk_us, by rw [pk_us]; exact qn_0⟩
theorem xd_m1 {a : Nat} {w : Int} {x y : Int32} (hx : x = nI a) (hy : y.toInt = w) :
    xd_dr (a, w, 33, 0) p fi fw se sw (upd (upd fi p 33) p x) (upd (upd fw p 0) p y) (upd se p 33) (upd sw p 0) :=
  ⟨fun q hq => ⟨by rw [pk_un hq, pk_un hq], by rw [pk_un hq, pk_un hq], pk_un hq, pk_un hq⟩, by rw [pk_us]; exact hx, by rw [pk_us]; exact hy, pk_us, by rw [pk_us]; exact qn_0⟩
theorem xd_m2 {a c : Nat} {w z : Int} {x y x2 y2 : Int32} (hx : x = nI a) (hy : y.toInt = w) (hx2 : x2 = nI c) (hy2 : y2.toInt = z) :
    xd_dr (a, w, c, z) p fi fw se sw (upd (upd fi p 33) p x) (upd (upd fw p 0) p y) (upd (upd se p 33) p x2) (upd (upd sw p 0) p y2) :=
  ⟨fun q hq => ⟨by rw [pk_un hq, pk_un hq], by rw [pk_un hq, pk_un hq], by rw [pk_un hq, pk_un hq], by rw [pk_un hq, pk_un hq]⟩, by rw [pk_us]; exact hx, by rw [pk_us]; exact hy, by rw [pk_us]; exact hx2, by rw [pk_us]; exact hy2⟩
/-- the outcome of one describe from row 25 on -/
abbrev xd_Out (N g p : Nat) (z : Int32) (row : Nat × Int × Nat × Int) (lg og tp vt iv ce ac : Int32) (kd oA oB oC ln ip sa pc fl bh vl el ou oc bv so bd fi fw se sw ts : Nat → Int32) : Prop :=
  ∃ fi' fw' se' sw' : Nat → Int32, xd_dr row p fi fw se sw fi' fw' se' sw' ∧
    ∀ post : SX → Prop, post (lg, og, tp, vt, iv, ce, ac, nI N, kd, oA, oB, oC, ln, ip, sa, pc, fl, bh, vl, el, ou, oc, bv, so, bd, fi', fw', se', sw', ts) → wX_describe_25 post (nI g) (nI p) (oA p) (oB p) z lg og tp vt iv ce ac (nI N) kd oA oB oC ln ip sa pc fl bh vl el ou oc bv so bd fi fw se sw ts
theorem xd_g3 (hg : g < 4) : nI g = 3 ↔ g = 3 := nI_eq (b := 3) (by omega) (by omega)
theorem xd_sm {z b : Int32} {c : Int} (hz : z.toInt = c) (hc : c = 1 ∨ c = -1) (hb1 : -15 ≤ b.toInt) (hb2 : b.toInt ≤ 15) : (z * b).toInt = c * b.toInt := by
  rw [Jvm.Kit.i32_mul (by rw [hz]; rcases hc with rfl | rfl <;> omega) (by rw [hz]; rcases hc with rfl | rfl <;> omega), hz]
theorem xd_sg (g : Nat) : cr_sg g = 1 ∨ cr_sg g = -1 := by
  unfold cr_sg
  split
  · exact Or.inr rfl
  · exact Or.inl rfl
theorem xd_k0 {z : Int32} (hz : z.toInt = cr_sg g) (hp : p < 32) (hk : kd p = 0) (h1 : -15 ≤ (oA p).toInt) (h2 : (oA p).toInt ≤ 15) :
    xd_Out N g p z (cr_row g N 0 (oA p) (oB p)) lg og tp vt iv ce ac kd oA oB oC ln ip sa pc fl bh vl el ou oc bv so bd fi fw se sw ts := by
  have i1 : vp_in (nI p) 32 := vp_in_nI (by omega) (by omega)
  have cl : (nI p).toNatClampNeg = p := nI_clamp (by omega)
  refine ⟨_, _, _, _, xd_m1 (x := 32) rfl (xd_sm hz (xd_sg g) h1 h2), fun post h => ?_⟩
  unfold wX_describe_25
  refine xc_first hp (xc_second hp ?_)
  dsimp only
  rw [cl]
  exact ⟨i1, nm_r hk (br_f (by decide) (br_f (by decide) (br_t rfl (xc_first hp h))))⟩
theorem xd_k1 {z : Int32} (hg : g < 4) (hp : p < 32) (hk : kd p = 1) : xd_Out N g p z (cr_row g N 1 (oA p) (oB p)) lg og tp vt iv ce ac kd oA oB oC ln ip sa pc fl bh vl el ou oc bv so bd fi fw se sw ts := by
  have i1 : vp_in (nI p) 32 := vp_in_nI (by omega) (by omega)
  have cl : (nI p).toNatClampNeg = p := nI_clamp (by omega)
  rw [cr_r1]
  by_cases h3 : g = 3
  · rw [if_pos (Or.inl h3)]
    refine ⟨_, _, _, _, xd_m1 (x := 32) (y := 0) rfl qn_0, fun post h => ?_⟩
    unfold wX_describe_25
    refine xc_first hp (xc_second hp ?_)
    dsimp only
    rw [cl]
    refine ⟨i1, nm_r hk (br_f (by decide) (br_f (by decide) (br_f (by decide) (br_t rfl (br_t ((xd_g3 hg).mpr h3) ?_)))))⟩
    unfold wX_describe_134 wX_describe_141
    exact xc_first hp h
  · by_cases ha : oA p = nI g
    · rw [if_pos (Or.inr ha)]
      refine ⟨_, _, _, _, xd_m1 (x := 32) (y := 0) rfl qn_0, fun post h => ?_⟩
      unfold wX_describe_25
      refine xc_first hp (xc_second hp ?_)
      dsimp only
      rw [cl]
      refine ⟨i1, nm_r hk (br_f (by decide) (br_f (by decide) (br_f (by decide) (br_t rfl (br_f (fun e => h3 ((xd_g3 hg).mp e)) (br_t ha ?_))))))⟩
      unfold wX_describe_134 wX_describe_141
      exact xc_first hp h
    · rw [if_neg (fun e => e.elim h3 ha)]
      refine ⟨_, _, _, _, xd_m1 (x := 33) (y := 0) rfl qn_0, fun post h => ?_⟩
      unfold wX_describe_25
      refine xc_first hp (xc_second hp ?_)
      dsimp only
      rw [cl]
      refine ⟨i1, nm_r hk (br_f (by decide) (br_f (by decide) (br_f (by decide) (br_t rfl (br_f (fun e => h3 ((xd_g3 hg).mp e)) (br_f ha ?_))))))⟩
      unfold wX_describe_141
      exact xc_first hp h
theorem xd_k2 {z : Int32} (hp : p < 32) (hk : kd p = 2) : xd_Out N g p z (cr_row g N 2 (oA p) (oB p)) lg og tp vt iv ce ac kd oA oB oC ln ip sa pc fl bh vl el ou oc bv so bd fi fw se sw ts := by
  have i1 : vp_in (nI p) 32 := vp_in_nI (by omega) (by omega)
  have cl : (nI p).toNatClampNeg = p := nI_clamp (by omega)
  refine ⟨_, _, _, _, xd_m0, fun post h => ?_⟩
  unfold wX_describe_25
  refine xc_first hp (xc_second hp ?_)
  dsimp only
  rw [cl]
  exact ⟨i1, nm_r hk (br_f (by decide) (br_f (by decide) (br_f (by decide) (br_f (by decide) (br_t rfl h)))))⟩
theorem xd_kb {z c : Int32} (hp : p < 32) (hk : kd p = c) (hc : c = 11 ∨ c = 12 ∨ c = 13 ∨ c = 14) : xd_Out N g p z (cr_row g N c (oA p) (oB p)) lg og tp vt iv ce ac kd oA oB oC ln ip sa pc fl bh vl el ou oc bv so bd fi fw se sw ts := by
  have i1 : vp_in (nI p) 32 := vp_in_nI (by omega) (by omega)
  have cl : (nI p).toNatClampNeg = p := nI_clamp (by omega)
  have e : cr_row g N c (oA p) (oB p) = (33, 0, 33, 0) := by rcases hc with rfl | rfl | rfl | rfl <;> rfl
  rw [e]
  refine ⟨_, _, _, _, xd_m0, fun post h => ?_⟩
  unfold wX_describe_25
  refine xc_first hp (xc_second hp ?_)
  dsimp only
  rw [cl]
  exact ⟨i1, nm_r hk (br_f (by rcases hc with rfl | rfl | rfl | rfl <;> decide) (br_t (by rcases hc with rfl | rfl | rfl | rfl <;> decide) h))⟩
theorem xd_k3 {z : Int32} {q : Nat} (hz : z.toInt = cr_sg g) (hp : p < 32) (hk : kd p = 3) (ha : oA p = nI q) (hq : q < p) (h1 : -4 ≤ (oB p).toInt) (h2 : (oB p).toInt ≤ 4) :
    xd_Out N g p z (cr_row g N 3 (oA p) (oB p)) lg og tp vt iv ce ac kd oA oB oC ln ip sa pc fl bh vl el ou oc bv so bd fi fw se sw ts := by
  have i1 : vp_in (nI p) 32 := vp_in_nI (by omega) (by omega)
  have cl : (nI p).toNatClampNeg = p := nI_clamp (by omega)
  have ca : (oA p).toNatClampNeg = q := by rw [ha]; exact nI_clamp (by omega)
  rw [cr_r3, ca]
  refine ⟨_, _, _, _, xd_m1 ha (xd_sm hz (xd_sg g) (by omega) (by omega)), fun post h => ?_⟩
  unfold wX_describe_25
  refine xc_first hp (xc_second hp ?_)
  dsimp only
  rw [cl]
  exact ⟨i1, nm_r hk (br_f (by decide) (br_f (by decide) (br_f (by decide) (br_f (by decide) (br_f (by decide) (br_t rfl (xc_first hp h)))))))⟩
theorem xd_k4 {z : Int32} {q : Nat} (hz : z.toInt = cr_sg g) (hp : p < 32) (hk : kd p = 4) (ha : oA p = nI q) (hq : q < p) (h1 : -4 ≤ (oB p).toInt) (h2 : (oB p).toInt ≤ 4) :
    xd_Out N g p z (cr_row g N 4 (oA p) (oB p)) lg og tp vt iv ce ac kd oA oB oC ln ip sa pc fl bh vl el ou oc bv so bd fi fw se sw ts := by
  have i1 : vp_in (nI p) 32 := vp_in_nI (by omega) (by omega)
  have cl : (nI p).toNatClampNeg = p := nI_clamp (by omega)
  have ca : (oA p).toNatClampNeg = q := by rw [ha]; exact nI_clamp (by omega)
  have hm := xd_sm hz (xd_sg g) (b := oB p) (by omega) (by omega)
  rw [cr_r4, ca]
  by_cases hs : cr_sg g * (oB p).toInt < 0
  · rw [if_pos hs]
    refine ⟨_, _, _, _, xd_m1 (x := 33) rfl hm, fun post h => ?_⟩
    unfold wX_describe_25
    refine xc_first hp (xc_second hp ?_)
    dsimp only
    rw [cl]
    refine ⟨i1, nm_r hk (br_f (by decide) (br_f (by decide) (br_f (by decide) (br_f (by decide) (br_f (by decide) (br_f (by decide) (br_t rfl (br_t (by rw [qn_lt, hm, qn_0]; exact hs) ?_))))))))⟩
    unfold wX_describe_178
    exact xc_first hp h
  · rw [if_neg hs]
    refine ⟨_, _, _, _, xd_m1 ha hm, fun post h => ?_⟩
    unfold wX_describe_25
    refine xc_first hp (xc_second hp ?_)
    dsimp only
    rw [cl]
    refine ⟨i1, nm_r hk (br_f (by decide) (br_f (by decide) (br_f (by decide) (br_f (by decide) (br_f (by decide) (br_f (by decide) (br_t rfl (br_f (by rw [qn_lt, hm, qn_0]; exact hs) ?_))))))))⟩
    unfold wX_describe_178
    exact xc_first hp h
theorem xd_k5 {z : Int32} {q q2 : Nat} (hN : N ≤ 32) (hp : p < 32) (hk : kd p = 5) (ha : oA p = nI q) (hq : q < p) (hb : oB p = nI q2) (hq2 : q2 < 32) :
    xd_Out N g p z (cr_row g N 5 (oA p) (oB p)) lg og tp vt iv ce ac kd oA oB oC ln ip sa pc fl bh vl el ou oc bv so bd fi fw se sw ts := by
  have i1 : vp_in (nI p) 32 := vp_in_nI (by omega) (by omega)
  have cl : (nI p).toNatClampNeg = p := nI_clamp (by omega)
  have ca : (oA p).toNatClampNeg = q := by rw [ha]; exact nI_clamp (by omega)
  have cb : (oB p).toNatClampNeg = q2 := by rw [hb]; exact nI_clamp (by omega)
  rw [cr_r5, ca, cb]
  by_cases hs : q2 < N
  · rw [if_pos hs]
    refine ⟨_, _, _, _, xd_m2 (y := 0) (y2 := 0) ha qn_0 hb qn_0, fun post h => ?_⟩
    unfold wX_describe_25
    refine xc_first hp (xc_second hp ?_)
    dsimp only
    rw [cl]
    refine ⟨i1, nm_r hk (br_f (by decide) (br_f (by decide) (br_f (by decide) (br_f (by decide) (br_f (by decide) (br_f (by decide) (br_f (by decide) (br_t rfl (xc_first hp (br_f ?_ ?_))))))))))⟩
    · rw [hb]; exact nI_ge hs (by omega)
    · unfold wX_describe_214
      exact xc_second hp h
  · rw [if_neg hs]
    refine ⟨_, _, _, _, xd_m2 (y := 0) (x2 := 33) (y2 := 0) ha qn_0 rfl qn_0, fun post h => ?_⟩
    unfold wX_describe_25
    refine xc_first hp (xc_second hp ?_)
    dsimp only
    rw [cl]
    refine ⟨i1, nm_r hk (br_f (by decide) (br_f (by decide) (br_f (by decide) (br_f (by decide) (br_f (by decide) (br_f (by decide) (br_f (by decide) (br_t rfl (xc_first hp (br_t ?_ ?_))))))))))⟩
    · rw [hb]; exact nI_le (by omega) (by omega)
    · unfold wX_describe_214
      exact xc_second hp h
theorem xd_k10 {z : Int32} {q k : Nat} (hg : g < 4) (hp : p < 32) (hk : kd p = 10) (ha : oA p = nI q) (hq : q < p) (hb : oB p = nI k) (hk3 : k < 3) :
    xd_Out N g p z (cr_row g N 10 (oA p) (oB p)) lg og tp vt iv ce ac kd oA oB oC ln ip sa pc fl bh vl el ou oc bv so bd fi fw se sw ts := by
  have i1 : vp_in (nI p) 32 := vp_in_nI (by omega) (by omega)
  have cl : (nI p).toNatClampNeg = p := nI_clamp (by omega)
  have ca : (oA p).toNatClampNeg = q := by rw [ha]; exact nI_clamp (by omega)
  rw [cr_r10, ca]
  by_cases h3 : g = 3
  · rw [if_pos (Or.inl h3), if_pos h3]
    refine ⟨_, _, _, _, xd_m2 (y := 0) (x2 := 32) (y2 := 0) ha qn_0 rfl qn_0, fun post h => ?_⟩
    unfold wX_describe_25
    refine xc_first hp (xc_second hp ?_)
    dsimp only
    rw [cl]
    refine ⟨i1, nm_r hk (br_f (by decide) (br_f (by decide) (br_f (by decide) (br_f (by decide) (br_f (by decide) (br_f (by decide) (br_f (by decide) (br_f (by decide) (br_f (by decide) (br_f (by decide) (br_f (by decide) (br_f (by decide) (br_t rfl (xc_first hp ?_))))))))))))))⟩
    dsimp only
    unfold wpX_describeCheck
    exact br_t ((xd_g3 hg).mpr h3) (xc_second hp h)
  · by_cases hbg : oB p = nI g
    · rw [if_pos (Or.inr hbg), if_neg h3, if_pos hbg]
      refine ⟨_, _, _, _, xd_m2 (y := 0) (x2 := 32) (y2 := -1) ha qn_0 rfl qn_m1, fun post h => ?_⟩
      unfold wX_describe_25
      refine xc_first hp (xc_second hp ?_)
      dsimp only
      rw [cl]
      refine ⟨i1, nm_r hk (br_f (by decide) (br_f (by decide) (br_f (by decide) (br_f (by decide) (br_f (by decide) (br_f (by decide) (br_f (by decide) (br_f (by decide) (br_f (by decide) (br_f (by decide) (br_f (by decide) (br_f (by decide) (br_t rfl (xc_first hp ?_))))))))))))))⟩
      dsimp only
      unfold wpX_describeCheck
      dsimp only
      rw [cl]
      exact br_f (fun e => h3 ((xd_g3 hg).mp e)) ⟨i1, br_t hbg (xc_second hp h)⟩
    · rw [if_neg (fun e => e.elim h3 hbg), if_neg h3, if_neg hbg]
      refine ⟨_, _, _, _, xd_m1 (y := 0) ha qn_0, fun post h => ?_⟩
      unfold wX_describe_25
      refine xc_first hp (xc_second hp ?_)
      dsimp only
      rw [cl]
      refine ⟨i1, nm_r hk (br_f (by decide) (br_f (by decide) (br_f (by decide) (br_f (by decide) (br_f (by decide) (br_f (by decide) (br_f (by decide) (br_f (by decide) (br_f (by decide) (br_f (by decide) (br_f (by decide) (br_f (by decide) (br_t rfl (xc_first hp ?_))))))))))))))⟩
      dsimp only
      unfold wpX_describeCheck
      dsimp only
      rw [cl]
      exact br_f (fun e => h3 ((xd_g3 hg).mp e)) ⟨i1, br_f hbg h⟩
/-- a branch: its second edge -/
theorem xd_br25 {x y : Int32} (hp : p < 32) {post : SX → Prop}
    (h1 : kd p = x → post (lg, og, tp, vt, iv, ce, ac, fn, kd, oA, oB, oC, ln, ip, sa, pc, fl, bh, vl, el, ou, oc, bv, so, bd, fi, fw, upd se p (oB p), upd sw p (-1), ts)) (h2 : ¬ kd p = x → kd p = y → post (lg, og, tp, vt, iv, ce, ac, fn, kd, oA, oB, oC, ln, ip, sa, pc, fl, bh, vl, el, ou, oc, bv, so, bd, fi, fw, upd se p (oB p), upd sw p 0, ts)) (h3 : ¬ kd p = x → ¬ kd p = y → post (lg, og, tp, vt, iv, ce, ac, fn, kd, oA, oB, oC, ln, ip, sa, pc, fl, bh, vl, el, ou, oc, bv, so, bd, fi, fw, se, sw, ts)) :
    wX_describeBranch_25 post (nI p) x y lg og tp vt iv ce ac fn kd oA oB oC ln ip sa pc fl bh vl el ou oc bv so bd fi fw se sw ts := by
  have i1 : vp_in (nI p) 32 := vp_in_nI (by omega) (by omega)
  have cl : (nI p).toNatClampNeg = p := nI_clamp (by omega)
  unfold wX_describeBranch_25
  rw [cl]
  exact ⟨i1, br_c (fun e => ⟨i1, xc_second hp (h1 e)⟩) (fun e => ⟨i1, br_c (fun e2 => ⟨i1, xc_second hp (h2 e e2)⟩) (fun e2 => h3 e e2)⟩)⟩
theorem xd_br (hg : g < 4) (hp : p < 32) {post : SX → Prop}
    (h1 : kd p = (if g = 3 then 8 else 6) → post (lg, og, tp, vt, iv, ce, ac, fn, kd, oA, oB, oC, ln, ip, sa, pc, fl, bh, vl, el, ou, oc, bv, so, bd, fi, fw, upd se p (oB p), upd sw p (-1), ts))
    (h2 : ¬ kd p = (if g = 3 then 8 else 6) → kd p = (if g = 3 then 9 else 7) → post (lg, og, tp, vt, iv, ce, ac, fn, kd, oA, oB, oC, ln, ip, sa, pc, fl, bh, vl, el, ou, oc, bv, so, bd, fi, fw, upd se p (oB p), upd sw p 0, ts))
    (h3 : ¬ kd p = (if g = 3 then 8 else 6) → ¬ kd p = (if g = 3 then 9 else 7) → post (lg, og, tp, vt, iv, ce, ac, fn, kd, oA, oB, oC, ln, ip, sa, pc, fl, bh, vl, el, ou, oc, bv, so, bd, fi, fw, se, sw, ts)) :
    wpX_describeBranch post (lg, og, tp, vt, iv, ce, ac, fn, kd, oA, oB, oC, ln, ip, sa, pc, fl, bh, vl, el, ou, oc, bv, so, bd, fi, fw, se, sw, ts) (nI g) (nI p) := by
  unfold wpX_describeBranch
  dsimp only
  by_cases e : g = 3
  · rw [if_pos e] at h1 h2 h3
    rw [if_pos e] at h2 h3
    refine br_t ((xd_g3 hg).mpr e) ?_
    unfold wX_describeBranch_12
    exact br_t ((xd_g3 hg).mpr e) (xd_br25 hp h1 h2 h3)
  · rw [if_neg e] at h1 h2 h3
    rw [if_neg e] at h2 h3
    refine br_f (fun e2 => e ((xd_g3 hg).mp e2)) ?_
    unfold wX_describeBranch_12
    exact br_f (fun e2 => e ((xd_g3 hg).mp e2)) (xd_br25 hp h1 h2 h3)
theorem xd_k69 {z c : Int32} {q q2 : Nat} (hg : g < 4) (hp : p < 32) (hk : kd p = c) (hc : c = 6 ∨ c = 7 ∨ c = 8 ∨ c = 9) (ha : oA p = nI q) (hq : q < p) (hb : oB p = nI q2) (hq2 : q2 < p) :
    xd_Out N g p z (cr_row g N c (oA p) (oB p)) lg og tp vt iv ce ac kd oA oB oC ln ip sa pc fl bh vl el ou oc bv so bd fi fw se sw ts := by
  have i1 : vp_in (nI p) 32 := vp_in_nI (by omega) (by omega)
  have cl : (nI p).toNatClampNeg = p := nI_clamp (by omega)
  have ca : (oA p).toNatClampNeg = q := by rw [ha]; exact nI_clamp (by omega)
  have cb : (oB p).toNatClampNeg = q2 := by rw [hb]; exact nI_clamp (by omega)
  have top : ∀ post : SX → Prop, wX_describe_237 post (nI g) (nI p) (oA p) lg og tp vt iv ce ac (nI N) kd oA oB oC ln ip sa pc fl bh vl el ou oc bv so bd (upd fi p 33) (upd fw p 0) (upd se p 33) (upd sw p 0) ts → wX_describe_25 post (nI g) (nI p) (oA p) (oB p) z lg og tp vt iv ce ac (nI N) kd oA oB oC ln ip sa pc fl bh vl el ou oc bv so bd fi fw se sw ts := by
    intro post h
    unfold wX_describe_25
    refine xc_first hp (xc_second hp ?_)
    dsimp only
    rw [cl]
    refine ⟨i1, nm_r hk ?_⟩
    rcases hc with rfl | rfl | rfl | rfl
    · exact br_f (by decide) (br_f (by decide) (br_f (by decide) (br_f (by decide) (br_f (by decide) (br_f (by decide) (br_f (by decide) (br_f (by decide) (br_t rfl h))))))))
    · exact br_f (by decide) (br_f (by decide) (br_f (by decide) (br_f (by decide) (br_f (by decide) (br_f (by decide) (br_f (by decide) (br_f (by decide) (br_f (by decide) (br_t rfl h)))))))))
    · exact br_f (by decide) (br_f (by decide) (br_f (by decide) (br_f (by decide) (br_f (by decide) (br_f (by decide) (br_f (by decide) (br_f (by decide) (br_f (by decide) (br_f (by decide) (br_t rfl h))))))))))
    · exact br_f (by decide) (br_f (by decide) (br_f (by decide) (br_f (by decide) (br_f (by decide) (br_f (by decide) (br_f (by decide) (br_f (by decide) (br_f (by decide) (br_f (by decide) (br_f (by decide) (br_t rfl h)))))))))))
  by_cases c1 : c = (if g = 3 then 8 else 6)
  · have er : cr_row g N c (oA p) (oB p) = (q, 0, q2, -1) := by
      by_cases e : g = 3
      · rw [if_pos e] at c1; subst c1; rw [cr_r8, if_pos e, if_pos e, ca, cb]
      · rw [if_neg e] at c1; subst c1; rw [cr_r6, if_neg e, if_neg e, ca, cb]
    rw [er]
    refine ⟨_, _, _, _, xd_m2 (y := 0) (y2 := -1) ha qn_0 hb qn_m1, fun post h => top post ?_⟩
    unfold wX_describe_237
    exact xc_first hp (xd_br hg hp (fun _ => h) (fun e => absurd (hk.trans c1) e) (fun e => absurd (hk.trans c1) e))
  · by_cases c2 : c = (if g = 3 then 9 else 7)
    · have er : cr_row g N c (oA p) (oB p) = (q, 0, q2, 0) := by
        by_cases e : g = 3
        · rw [if_pos e] at c2; subst c2; rw [cr_r9, if_pos e, ca, cb]
        · rw [if_neg e] at c2; subst c2; rw [cr_r7, if_neg e, ca, cb]
      rw [er]
      refine ⟨_, _, _, _, xd_m2 (y := 0) (y2 := 0) ha qn_0 hb qn_0, fun post h => top post ?_⟩
      unfold wX_describe_237
      exact xc_first hp (xd_br hg hp (fun e => absurd (hk.symm.trans e) c1) (fun _ _ => h) (fun _ e => absurd (hk.trans c2) e))
    · have er : cr_row g N c (oA p) (oB p) = (q, 0, 33, 0) := by
        by_cases e : g = 3
        · rw [if_pos e] at c1 c2
          rcases hc with rfl | rfl | rfl | rfl
          · rw [cr_r6, if_pos e, if_pos e, ca]
          · rw [cr_r7, if_pos e, ca]
          · exact absurd rfl c1
          · exact absurd rfl c2
        · rw [if_neg e] at c1 c2
          rcases hc with rfl | rfl | rfl | rfl
          · exact absurd rfl c1
          · exact absurd rfl c2
          · rw [cr_r8, if_neg e, if_neg e, ca]
          · rw [cr_r9, if_neg e, ca]
      rw [er]
      refine ⟨_, _, _, _, xd_m1 (y := 0) ha qn_0, fun post h => top post ?_⟩
      unfold wX_describe_237
      exact xc_first hp (xd_br hg hp (fun e => absurd (hk.symm.trans e) c1) (fun _ e => absurd (hk.symm.trans e) c2) (fun _ _ => h))
theorem xd_25 {z : Int32} (hz : z.toInt = cr_sg g) (hg : g < 4) (hC : CC ≤ 32) (hA : AA ≤ 3) (hN : N ≤ CC) (hp : p < N) (hk : cr_ok CC AA p kd (kd p) (oA p) (oB p) (oC p)) :
    xd_Out N g p z (cr_row g N (kd p) (oA p) (oB p)) lg og tp vt iv ce ac kd oA oB oC ln ip sa pc fl bh vl el ou oc bv so bd fi fw se sw ts := by
  have hp2 : p < 32 := by omega
  rcases hk with ⟨e, h1, h2⟩ | ⟨e, k, hk, ha⟩ | ⟨e, k, hk, ha⟩ | ⟨e, ⟨q, hq, ha⟩, h1, h2⟩ | ⟨e, ⟨q, hq, ha⟩, q2, hq2, hb⟩ | ⟨e, ⟨q, hq, ha⟩, ⟨q2, hq2, hb⟩, q3, hq3, hd⟩ |
    ⟨e, ⟨q, hq, ha⟩, k, hk, hb⟩ | ⟨e, q, hq, ha, hk⟩ | ⟨e, ⟨q, hq, ha, hk⟩, q2, hq2, hb⟩ | ⟨e, q, hq, ha⟩ | ⟨e, q, hq, ha⟩
  · rw [e]; exact xd_k0 hz hp2 e h1 h2
  · rw [e]; exact xd_k1 hg hp2 e
  · rw [e]; exact xd_k2 hp2 e
  · rcases e with e | e
    · rw [e]; exact xd_k3 hz hp2 e ha hq h1 h2
    · rw [e]; exact xd_k4 hz hp2 e ha hq h1 h2
  · rw [e]; exact xd_k5 (by omega) hp2 e ha hq hb (by omega)
  · exact xd_k69 hg hp2 rfl e ha hq hb hq2
  · rw [e]; exact xd_k10 hg hp2 e ha hq hb (by omega)
  · exact xd_kb hp2 rfl (Or.inl e)
  · exact xd_kb hp2 rfl (Or.inr (Or.inl e))
  · exact xd_kb hp2 rfl (Or.inr (Or.inr (Or.inl e)))
  · exact xd_kb hp2 rfl (Or.inr (Or.inr (Or.inr e)))
theorem xd_desc (hg : g < 4) (hC : CC ≤ 32) (hA : AA ≤ 3) (hN : N ≤ CC) (hp : p < N) (hk : cr_ok CC AA p kd (kd p) (oA p) (oB p) (oC p)) :
    ∃ fi' fw' se' sw' : Nat → Int32, xd_dr (cr_row g N (kd p) (oA p) (oB p)) p fi fw se sw fi' fw' se' sw' ∧
      ∀ post : SX → Prop, post (lg, og, tp, vt, iv, ce, ac, nI N, kd, oA, oB, oC, ln, ip, sa, pc, fl, bh, vl, el, ou, oc, bv, so, bd, fi', fw', se', sw', ts) → wpX_describe post (lg, og, tp, vt, iv, ce, ac, nI N, kd, oA, oB, oC, ln, ip, sa, pc, fl, bh, vl, el, ou, oc, bv, so, bd, fi, fw, se, sw, ts) (nI g) (nI p) := by
  have i1 : vp_in (nI p) 32 := vp_in_nI (by omega) (by omega)
  have cl : (nI p).toNatClampNeg = p := nI_clamp (by omega)
  by_cases e : g = 3
  · obtain ⟨fi', fw', se', sw', h1, h2⟩ := xd_25 (lg := lg) (og := og) (tp := tp) (vt := vt) (iv := iv) (ce := ce) (ac := ac) (kd := kd) (oA := oA) (oB := oB) (oC := oC) (ln := ln) (ip := ip) (sa := sa) (pc := pc) (fl := fl) (bh := bh) (vl := vl) (el := el) (ou := ou) (oc := oc) (bv := bv) (so := so) (bd := bd) (fi := fi) (fw := fw) (se := se) (sw := sw) (ts := ts) (z := -1) (by rw [qn_m1]; unfold cr_sg; rw [if_pos e]) hg hC hA hN hp hk
    refine ⟨fi', fw', se', sw', h1, fun post h => ?_⟩
    unfold wpX_describe
    dsimp only
    rw [cl]
    exact ⟨i1, nm_e ⟨i1, nm_e (br_t ((xd_g3 hg).mpr e) (h2 post h))⟩⟩
  · obtain ⟨fi', fw', se', sw', h1, h2⟩ := xd_25 (lg := lg) (og := og) (tp := tp) (vt := vt) (iv := iv) (ce := ce) (ac := ac) (kd := kd) (oA := oA) (oB := oB) (oC := oC) (ln := ln) (ip := ip) (sa := sa) (pc := pc) (fl := fl) (bh := bh) (vl := vl) (el := el) (ou := ou) (oc := oc) (bv := bv) (so := so) (bd := bd) (fi := fi) (fw := fw) (se := se) (sw := sw) (ts := ts) (z := 1) (by rw [qn_1]; unfold cr_sg; rw [if_neg e]) hg hC hA hN hp hk
    refine ⟨fi', fw', se', sw', h1, fun post h => ?_⟩
    unfold wpX_describe
    dsimp only
    rw [cl]
    exact ⟨i1, nm_e ⟨i1, nm_e (br_f (fun e2 => e ((xd_g3 hg).mp e2)) (h2 post h))⟩⟩
end XD
end
section
section XE
/-! the component: solve, bound -/
theorem bm_L_ex {n : Nat} {ph : Nat → Bool} {f s : Nat → Nat} {w1 w2 : Nat → Int} (hn : n ≤ 32) (hG : bm_G n ph f s w1 w2) : ∃ b, bm_L n ph f s w1 w2 b := by
  have hi : ∀ u, u < n → xb_in n bm_lo u = 100000 := fun u hu => if_pos hu
  have hB0 : bm_B n (xb_in n bm_lo) := ⟨show xb_in n bm_lo 32 = 0 from if_neg (by omega), show xb_in n bm_lo 33 = 100000 from if_neg (by omega), fun u hu => by rw [hi u hu]; omega⟩
  have key : ∀ (d r : Nat) (t : Nat → Bool) (b : Nat → Int), r + d = 10000 → bm_Inv n ph f s w1 w2 t b r → ∃ b, bm_L n ph f s w1 w2 b := by
    intro d
    induction d with
    | zero => intro r t b hr hI; have := bm_Inv_r hn hI; omega
    | succ d ih =>
      intro r t b hr hI
      by_cases hx : ∃ u, u < n ∧ ph u = true ∧ b u < b (if t u = true then f u else s u)
      · obtain ⟨c, hI2, _, _⟩ := bm_next hn hG hI hx hB0 hi
        exact ih (r + 1) _ c (by omega) hI2
      · exact ⟨b, bm_last hn hG hI hx⟩
  obtain ⟨c, hI, _, _⟩ := bm_first (t := fun _ => false) hn hG (fun _ _ => rfl) hB0 hi
  exact key 10000 0 _ c (by omega) hI
variable {lg og tp vt iv ce ac fn : Int32} {kd oA oB oC ln ip sa pc fl bh vl el ou oc bv so bd fi fw se sw ts : Nat → Int32}
variable {N g p CC AA : Nat}
theorem xe_solveL (hg : g < 4) (hC : CC ≤ 32) (hA : AA ≤ 3) (hN : N ≤ CC) (hk : cr_code CC AA N kd oA oB oC) :
    ∀ (d p : Nat) (fi fw se sw ts : Nat → Int32), p + d = N →
      (∀ q, q < p → fi q = nI (cr_f g N kd oA oB q) ∧ (fw q).toInt = cr_w1 g N kd oA oB q ∧ se q = nI (cr_s g N kd oA oB q) ∧ (sw q).toInt = cr_w2 g N kd oA oB q ∧ ts q = 0) →
      ∃ (bd' fi' fw' se' sw' ts' : Nat → Int32) (b : Nat → Int), cr_L g N kd oA oB b ∧ xb_b N g bd' b ∧ xb_fr g bd bd' ∧
        ∀ post : SX → Prop, post (lg, og, tp, vt, iv, ce, ac, nI N, kd, oA, oB, oC, ln, ip, sa, pc, fl, bh, vl, el, ou, oc, bv, so, bd', fi', fw', se', sw', ts') → wX_solve_7 post (nI g) (nI (34 * g)) (d + 1) (nI p) lg og tp vt iv ce ac (nI N) kd oA oB oC ln ip sa pc fl bh vl el ou oc bv so bd fi fw se sw ts := by
  intro d
  induction d with
  | zero =>
    intro p fi fw se sw ts hpd hrow
    have e : p = N := by omega
    subst e
    have hG := cr_G (g := g) hC hN hk
    have hT : xb_T p (cr_ph kd) (cr_f g p kd oA oB) (cr_s g p kd oA oB) (cr_w1 g p kd oA oB) (cr_w2 g p kd oA oB) kd fi fw se sw := fun q hq => by
      obtain ⟨h1, h2, h3, h4, _⟩ := hrow q hq
      exact ⟨⟨fun h => of_decide_eq_true h, fun h => decide_eq_true h⟩, h1, h2, h3, h4⟩
    have hS : xb_S p (fun _ => false) ts := fun q hq => ⟨fun h => (nomatch h), fun h => absurd (hrow q hq).2.2.2.2 h⟩
    have hf2 : xb_fr g bd (upd (upd bd (34 * g + 32) 0) (34 * g + 33) 100000) := xb_fr_t (xb_fr_u (by omega)) (xb_fr_u (by omega))
    have hb : xb_b p g (upd (upd bd (34 * g + 32) 0) (34 * g + 33) 100000) (fun q => ((upd (upd bd (34 * g + 32) 0) (34 * g + 33) 100000) (34 * g + q)).toInt) := fun q _ => rfl
    have h32 : (fun q => ((upd (upd bd (34 * g + 32) 0) (34 * g + 33) 100000) (34 * g + q)).toInt) 32 = 0 := by
      dsimp only
      rw [pk_un (by omega), pk_us]; exact qn_0
    have h33 : (fun q => ((upd (upd bd (34 * g + 32) 0) (34 * g + 33) 100000) (34 * g + q)).toInt) 33 = 100000 := by
      dsimp only
      rw [pk_us]; exact qn_inf
    generalize hB : (fun q => ((upd (upd bd (34 * g + 32) 0) (34 * g + 33) 100000) (34 * g + q)).toInt) = b0 at hb h32 h33
    have hi : ∀ u, u < p → xb_in p b0 u = 100000 := fun u hu => if_pos hu
    have hB0 : bm_B p (xb_in p b0) := ⟨by rw [show xb_in p b0 32 = b0 32 from if_neg (by omega)]; exact h32, by rw [show xb_in p b0 33 = b0 33 from if_neg (by omega)]; exact h33, fun u hu => by rw [hi u hu]; omega⟩
    obtain ⟨c, hI, hs1, hs2⟩ := bm_first (t := fun _ => false) (by omega) hG (fun _ _ => rfl) hB0 hi
    obtain ⟨bd1, h1, h2, h3⟩ := xb_settle (lg := lg) (og := og) (tp := tp) (vt := vt) (iv := iv) (ce := ce) (ac := ac) (kd := kd) (oA := oA) (oB := oB) (oC := oC) (ln := ln) (ip := ip) (sa := sa) (pc := pc) (fl := fl) (bh := bh) (vl := vl) (el := el) (ou := ou) (oc := oc) (bv := bv) (so := so) (bd := upd (upd bd (34 * g + 32) 0) (34 * g + 33) 100000) (fi := fi) (fw := fw) (se := se) (sw := sw) (ts := ts) (by omega) hg hG hT hS hb h32 h33 hI.2.1 hs1 hs2
    obtain ⟨bd', ts', b', h4, h5, h6, h7⟩ := xc_rounds (lg := lg) (og := og) (tp := tp) (vt := vt) (iv := iv) (ce := ce) (ac := ac) (kd := kd) (oA := oA) (oB := oB) (oC := oC) (ln := ln) (ip := ip) (sa := sa) (pc := pc) (fl := fl) (bh := bh) (vl := vl) (el := el) (ou := ou) (oc := oc) (bv := bv) (so := so) (fi := fi) (fw := fw) (se := se) (sw := sw) (by omega) hg hG hT 10000 0 _ bd1 ts c (by omega) hS h1 hI
    refine ⟨bd', fi, fw, se, sw, ts', b', h4, h5, xb_fr_t hf2 (xb_fr_t h2 h6), fun post hp => br_t (nI_le (Nat.le_refl p) (by omega)) ?_⟩
    rw [show nI (34 * g) + 32 = nI (34 * g + 32) from nI_add _ 32, show nI (34 * g) + 33 = nI (34 * g + 33) from nI_add _ 33, nI_clamp (n := 34 * g + 32) (by omega), nI_clamp (n := 34 * g + 33) (by omega)]
    exact ⟨vp_in_nI (by omega) (by omega), nm_e ⟨vp_in_nI (by omega) (by omega), nm_e (h3 _ ⟨10001, h7 post hp⟩)⟩⟩
  | succ d ih =>
    intro p fi fw se sw ts hpd hrow
    have hp : p < N := by omega
    have i1 : vp_in (nI p) 32 := vp_in_nI (by omega) (by omega)
    have cl : (nI p).toNatClampNeg = p := nI_clamp (by omega)
    obtain ⟨fi1, fw1, se1, sw1, ⟨h1, h2, h3, h4, h5⟩, h6⟩ := xd_desc (lg := lg) (og := og) (tp := tp) (vt := vt) (iv := iv) (ce := ce) (ac := ac) (kd := kd) (oA := oA) (oB := oB) (oC := oC) (ln := ln) (ip := ip) (sa := sa) (pc := pc) (fl := fl) (bh := bh) (vl := vl) (el := el) (ou := ou) (oc := oc) (bv := bv) (so := so) (bd := bd) (fi := fi) (fw := fw) (se := se) (sw := sw) (ts := upd ts p 0) hg hC hA hN hp (hk p hp)
    obtain ⟨bd', fi', fw', se', sw', ts', b, h7, h8, h9, h10⟩ := ih (p + 1) fi1 fw1 se1 sw1 (upd ts p 0) (by omega) (fun q hq => by
      by_cases e : q = p
      · subst e
        exact ⟨h2, h3, h4, h5, pk_us⟩
      · obtain ⟨k1, k2, k3, k4⟩ := h1 q e
        rw [k1, k2, k3, k4, pk_un e]
        exact hrow q (by omega))
    refine ⟨bd', fi', fw', se', sw', ts', b, h7, h8, h9, fun post hpost => br_f (nI_ge (by omega) (by omega)) ?_⟩
    rw [cl, qn_vb0]
    exact ⟨i1, nm_e (h6 _ (nm_r (nI_1 p) (h10 post hpost)))⟩
theorem xe_solve (hg : g < 4) (hC : CC ≤ 32) (hA : AA ≤ 3) (hN : N ≤ CC) (hk : cr_code CC AA N kd oA oB oC) :
      ∃ (bd' fi' fw' se' sw' ts' : Nat → Int32) (b : Nat → Int), cr_L g N kd oA oB b ∧ xb_b N g bd' b ∧ xb_fr g bd bd' ∧
        ∀ post : SX → Prop, post (lg, og, tp, vt, iv, ce, ac, nI N, kd, oA, oB, oC, ln, ip, sa, pc, fl, bh, vl, el, ou, oc, bv, so, bd', fi', fw', se', sw', ts') → wpX_solve post (lg, og, tp, vt, iv, ce, ac, nI N, kd, oA, oB, oC, ln, ip, sa, pc, fl, bh, vl, el, ou, oc, bv, so, bd, fi, fw, se, sw, ts) (nI g) := by
  obtain ⟨bd', fi', fw', se', sw', ts', b, h1, h2, h3, h4⟩ := xe_solveL (lg := lg) (og := og) (tp := tp) (vt := vt) (iv := iv) (ce := ce) (ac := ac) (kd := kd) (oA := oA) (oB := oB) (oC := oC) (ln := ln) (ip := ip) (sa := sa) (pc := pc) (fl := fl) (bh := bh) (vl := vl) (el := el) (ou := ou) (oc := oc) (bv := bv) (so := so) (bd := bd) hg hC hA hN hk N 0 fi fw se sw ts (by omega) (fun q hq => by omega)
  exact ⟨bd', fi', fw', se', sw', ts', b, h1, h2, h3, fun post hp => nm_r (e' := nI (34 * g)) (by rw [show (34 : Int32) = nI 34 from rfl, pk_mul, Nat.mul_comm]) ⟨N + 1, h4 post hp⟩⟩
/-- solved graphs hold the least solution -/
def xe_ok (N : Nat) (kd oA oB so bd : Nat → Int32) : Prop := ∀ g, g < 4 → ¬ so g = 0 → ∃ b, cr_L g N kd oA oB b ∧ xb_b N g bd b
theorem xe_bound (hg : g < 4) (hC : CC ≤ 32) (hA : AA ≤ 3) (hN : N ≤ CC) (hk : cr_code CC AA N kd oA oB oC) (ho : xe_ok N kd oA oB so bd) (hp : p < N) :
      ∃ (r : Int32) (so' bd' fi' fw' se' sw' ts' : Nat → Int32), (∃ b, cr_L g N kd oA oB b ∧ r.toInt = b p) ∧ xe_ok N kd oA oB so' bd' ∧
        ∀ post : Int32 → SX → Prop, post r (lg, og, tp, vt, iv, ce, ac, nI N, kd, oA, oB, oC, ln, ip, sa, pc, fl, bh, vl, el, ou, oc, bv, so', bd', fi', fw', se', sw', ts') → wpX_bound post (lg, og, tp, vt, iv, ce, ac, nI N, kd, oA, oB, oC, ln, ip, sa, pc, fl, bh, vl, el, ou, oc, bv, so, bd, fi, fw, se, sw, ts) (nI g) (nI p) := by
  have i1 : vp_in (nI g) 4 := vp_in_nI (by omega) (by omega)
  have cl : (nI g).toNatClampNeg = g := nI_clamp (by omega)
  have j : nI g * 34 + nI p = nI (34 * g + p) := by rw [show (34 : Int32) = nI 34 from rfl, pk_mul, nI_add, Nat.mul_comm]
  have v : vp_in (nI (34 * g + p)) 136 := vp_in_nI (by omega) (by omega)
  have c : (nI (34 * g + p)).toNatClampNeg = 34 * g + p := nI_clamp (by omega)
  by_cases hz : so g = 0
  · obtain ⟨bd', fi', fw', se', sw', ts', b, h1, h2, h3, h4⟩ := xe_solve (lg := lg) (og := og) (tp := tp) (vt := vt) (iv := iv) (ce := ce) (ac := ac) (kd := kd) (oA := oA) (oB := oB) (oC := oC) (ln := ln) (ip := ip) (sa := sa) (pc := pc) (fl := fl) (bh := bh) (vl := vl) (el := el) (ou := ou) (oc := oc) (bv := bv) (so := so) (bd := bd) (fi := fi) (fw := fw) (se := se) (sw := sw) (ts := ts) hg hC hA hN hk
    refine ⟨bd' (34 * g + p), upd so g 1, bd', fi', fw', se', sw', ts', ⟨b, h1, h2 p (Or.inl hp)⟩, ?_, fun post hpost => ?_⟩
    · intro g2 hg2 hs
      by_cases e : g2 = g
      · subst e; exact ⟨b, h1, h2⟩
      · rw [pk_un e] at hs
        obtain ⟨b2, h5, h6⟩ := ho g2 hg2 hs
        refine ⟨b2, h5, fun q hq => ?_⟩
        rw [h3 (34 * g2 + q) (by omega)]
        exact h6 q hq
    · unfold wpX_bound
      dsimp only
      rw [cl, qn_vb1]
      refine ⟨i1, br_t hz (h4 _ ⟨i1, nm_e ?_⟩)⟩
      unfold wX_bound_21
      rw [j, c]
      exact ⟨v, hpost⟩
  · obtain ⟨b, h1, h2⟩ := ho g hg hz
    refine ⟨bd (34 * g + p), so, bd, fi, fw, se, sw, ts, ⟨b, h1, h2 p (Or.inl hp)⟩, ho, fun post hpost => ?_⟩
    unfold wpX_bound
    dsimp only
    rw [cl]
    refine ⟨i1, br_f hz ?_⟩
    unfold wX_bound_21
    rw [j, c]
    exact ⟨v, hpost⟩
end XE
end
section
section YA
/-! the reference: its rules against the same equations -/
def ya_rule (g : Nat) (c a b : Int32) (za zb : Int) : Int :=
  if c = 0 then cr_sg g * a.toInt
  else if c = 1 then (if g = 3 ∨ a = nI g then 0 else 1000000)
  else if c = 3 then za + cr_sg g * b.toInt
  else if c = 4 then (if cr_sg g * b.toInt < 0 then 1000000 else za + cr_sg g * b.toInt)
  else if c = 5 then (if za ≤ zb then zb else za)
  else if c = 6 then (if g = 3 then za else if zb - 1 ≤ za then zb - 1 else za)
  else if c = 7 then (if g = 3 then za else if zb ≤ za then zb else za)
  else if c = 8 then (if g = 3 then (if zb - 1 ≤ za then zb - 1 else za) else za)
  else if c = 9 then (if g = 3 then (if zb ≤ za then zb else za) else za)
  else if c = 10 then (if g = 3 then (if 0 ≤ za then 0 else za) else if b = nI g then (if -1 ≤ za then -1 else za) else za)
  else 1000000
theorem ya_r0 (g : Nat) (a b : Int32) (x y : Int) : ya_rule g 0 a b x y = cr_sg g * a.toInt := rfl
theorem ya_r1 (g : Nat) (a b : Int32) (x y : Int) : ya_rule g 1 a b x y = (if g = 3 ∨ a = nI g then 0 else 1000000) := rfl
theorem ya_r2 (g : Nat) (a b : Int32) (x y : Int) : ya_rule g 2 a b x y = 1000000 := rfl
theorem ya_r3 (g : Nat) (a b : Int32) (x y : Int) : ya_rule g 3 a b x y = x + cr_sg g * b.toInt := rfl
theorem ya_r4 (g : Nat) (a b : Int32) (x y : Int) : ya_rule g 4 a b x y = (if cr_sg g * b.toInt < 0 then 1000000 else x + cr_sg g * b.toInt) := rfl
theorem ya_r5 (g : Nat) (a b : Int32) (x y : Int) : ya_rule g 5 a b x y = (if x ≤ y then y else x) := rfl
theorem ya_r6 (g : Nat) (a b : Int32) (x y : Int) : ya_rule g 6 a b x y = (if g = 3 then x else if y - 1 ≤ x then y - 1 else x) := rfl
theorem ya_r7 (g : Nat) (a b : Int32) (x y : Int) : ya_rule g 7 a b x y = (if g = 3 then x else if y ≤ x then y else x) := rfl
theorem ya_r8 (g : Nat) (a b : Int32) (x y : Int) : ya_rule g 8 a b x y = (if g = 3 then (if y - 1 ≤ x then y - 1 else x) else x) := rfl
theorem ya_r9 (g : Nat) (a b : Int32) (x y : Int) : ya_rule g 9 a b x y = (if g = 3 then (if y ≤ x then y else x) else x) := rfl
theorem ya_r10 (g : Nat) (a b : Int32) (x y : Int) : ya_rule g 10 a b x y = (if g = 3 then (if 0 ≤ x then 0 else x) else if b = nI g then (if -1 ≤ x then -1 else x) else x) := rfl
theorem ya_r11 (g : Nat) (c a b : Int32) (x y : Int) (hc : c = 11 ∨ c = 12 ∨ c = 13 ∨ c = 14) : ya_rule g c a b x y = 1000000 := by
  rcases hc with rfl | rfl | rfl | rfl <;> rfl
/-- the reference's scale: none is 1000000 -/
def ya_zc (x : Int) : Int := if 150 < x then 1000000 else x
def ya_zv (N : Nat) (z : Nat → Int) (x : Int32) : Int := if x < 0 then 1000000 else if nI N ≤ x then 1000000 else z x.toNatClampNeg
theorem ya_zv_c {N q : Nat} {z : Nat → Int} (hN : N ≤ 32) (hq : q < N) : ya_zv N z (nI q) = z q := by
  unfold ya_zv
  rw [if_neg (nI_pos (by omega)), if_neg (nI_ge hq (by omega)), nI_clamp (by omega)]
theorem ya_zv_o {N q : Nat} {z : Nat → Int} (hN : N ≤ q) (hq : q < 32) : ya_zv N z (nI q) = 1000000 := by
  unfold ya_zv
  rw [if_neg (nI_pos (by omega)), if_pos (nI_le hN (by omega))]
def cr_Fr (c : Int32) (row : Nat × Int × Nat × Int) (b : Nat → Int) : Int :=
  if c = 5 then (if bm_ex (b row.1) row.2.1 ≤ bm_ex (b row.2.2.1) row.2.2.2 then bm_ex (b row.2.2.1) row.2.2.2 else bm_ex (b row.1) row.2.1)
  else (if bm_ex (b row.2.2.1) row.2.2.2 ≤ bm_ex (b row.1) row.2.1 then bm_ex (b row.2.2.1) row.2.2.2 else bm_ex (b row.1) row.2.1)
theorem cr_Fr_n {c : Int32} (h : ¬ c = 5) (row : Nat × Int × Nat × Int) (b : Nat → Int) : cr_Fr c row b =
    (if bm_ex (b row.2.2.1) row.2.2.2 ≤ bm_ex (b row.1) row.2.1 then bm_ex (b row.2.2.1) row.2.2.2 else bm_ex (b row.1) row.2.1) := if_neg h
theorem cr_Fr_p {c : Int32} (h : c = 5) (row : Nat × Int × Nat × Int) (b : Nat → Int) : cr_Fr c row b =
    (if bm_ex (b row.1) row.2.1 ≤ bm_ex (b row.2.2.1) row.2.2.2 then bm_ex (b row.2.2.1) row.2.2.2 else bm_ex (b row.1) row.2.1) := if_pos h
theorem cr_Fr_eq (g N : Nat) (kd oA oB : Nat → Int32) (b : Nat → Int) (p : Nat) :
    bm_F (cr_ph kd) (cr_f g N kd oA oB) (cr_s g N kd oA oB) (cr_w1 g N kd oA oB) (cr_w2 g N kd oA oB) b p = cr_Fr (kd p) (cr_row g N (kd p) (oA p) (oB p)) b := by
  unfold bm_F cr_Fr cr_ph cr_f cr_s cr_w1 cr_w2
  by_cases h : kd p = 5
  · rw [if_pos (decide_eq_true h), if_pos h]
  · rw [if_neg (fun e => h (of_decide_eq_true e)), if_neg h]
def ya_rng (N : Nat) (b : Nat → Int) : Prop := ∀ q, q < N → b q = 100000 ∨ (-1000000 ≤ b q ∧ b q ≤ 150)
theorem ya_edge {N q : Nat} {b : Nat → Int} {w : Int} (hr : ya_rng N b) (hq : q < N) (h1 : -4 ≤ w) (h2 : w ≤ 4) :
    (ya_zc (b q) = 1000000 ∧ bm_ex (b q) w = 100000) ∨ (ya_zc (b q) ≤ 150 ∧ bm_ex (b q) w = ya_zc (b q) + w) := by
  unfold ya_zc
  rcases hr q hq with h | h
  · left
    rw [if_pos (by omega)]
    exact ⟨rfl, bm_ex_top (by omega)⟩
  · right
    rw [if_neg (by omega)]
    exact ⟨h.2, bm_ex_eq (by omega) (by omega)⟩
theorem ya_F {CC AA N p g : Nat} {kd : Nat → Int32} {c a b d : Int32} {B : Nat → Int} (hC : CC ≤ 32) (hN : N ≤ CC) (hp : p < N) (h : cr_ok CC AA p kd c a b d)
    (h0 : B 32 = 0) (h1 : B 33 = 100000) (hr : ya_rng N B) :
    (150 < ya_rule g c a b (ya_zv N (fun q => ya_zc (B q)) a) (ya_zv N (fun q => ya_zc (B q)) b) ∧ 150 < cr_Fr c (cr_row g N c a b) B) ∨
    (ya_rule g c a b (ya_zv N (fun q => ya_zc (B q)) a) (ya_zv N (fun q => ya_zc (B q)) b) ≤ 150 ∧
      cr_Fr c (cr_row g N c a b) B = ya_rule g c a b (ya_zv N (fun q => ya_zc (B q)) a) (ya_zv N (fun q => ya_zc (B q)) b)) := by
  have t0 : bm_ex (B 33) 0 = 100000 := by rw [h1]; rfl
  have z0 : bm_ex (B 32) 0 = 0 := by rw [h0]; rfl
  have m0 : bm_ex (B 32) (-1) = -1 := by rw [h0]; rfl
  rcases h with ⟨rfl, g1, g2⟩ | ⟨rfl, k, hk, rfl⟩ | ⟨rfl, k, hk, rfl⟩ | ⟨hc, ⟨q, hq, rfl⟩, g1, g2⟩ | ⟨rfl, ⟨q, hq, rfl⟩, q2, hq2, rfl⟩ | ⟨hc, ⟨q, hq, rfl⟩, ⟨q2, hq2, rfl⟩, q3, hq3, rfl⟩ |
    ⟨rfl, ⟨q, hq, rfl⟩, k, hk, rfl⟩ | ⟨rfl, q, hq, rfl, hk⟩ | ⟨rfl, ⟨q, hq, rfl, hk⟩, q2, hq2, rfl⟩ | ⟨rfl, q, hq, rfl⟩ | ⟨rfl, q, hq, rfl⟩
  · have hs := cr_sg_b (g := g) (lo := 15) (by omega) g2
    have e : bm_ex (B 32) (cr_sg g * a.toInt) = cr_sg g * a.toInt := by rw [h0, bm_ex_eq (by omega) (by omega)]; omega
    rw [ya_r0, cr_r0]
    rw [cr_Fr_n (by decide)]
    dsimp only
    rw [t0, e, if_neg (by omega)]
    right; omega
  · rw [ya_r1, cr_r1]
    rw [cr_Fr_n (by decide)]
    dsimp only
    by_cases hx : g = 3 ∨ nI k = nI g
    · rw [if_pos hx, if_pos hx, t0, z0, if_neg (by omega)]
      right; omega
    · rw [if_neg hx, if_neg hx, t0, if_pos (by omega)]
      left; omega
  · rw [ya_r2, cr_r2]
    rw [cr_Fr_n (by decide)]
    dsimp only
    rw [t0, if_pos (by omega)]
    left; omega
  · have hs := cr_sg_b (g := g) (lo := 4) (by omega) g2
    have hz : ya_zv N (fun q => ya_zc (B q)) (nI q) = ya_zc (B q) := ya_zv_c (by omega) (by omega)
    have he := ya_edge (q := q) hr (by omega) hs.1 hs.2
    rcases hc with rfl | rfl
    · rw [ya_r3, cr_r3, hz, nI_clamp (n := q) (by omega)]
      rw [cr_Fr_n (by decide)]
      dsimp only
      rw [t0]
      rcases he with ⟨e1, e2⟩ | ⟨e1, e2⟩
      · rw [e1, e2, if_pos (by omega)]
        left; omega
      · rw [e2]
        generalize cr_sg g * b.toInt = w at *
        rw [if_neg (by omega)]
        omega
    · rw [ya_r4, cr_r4, hz, nI_clamp (n := q) (by omega)]
      rw [cr_Fr_n (by decide)]
      dsimp only
      rw [t0]
      by_cases hx : cr_sg g * b.toInt < 0
      · rw [if_pos hx, if_pos hx, h1, bm_ex_top (by omega), if_pos (by omega)]
        left; omega
      · rw [if_neg hx, if_neg hx]
        rcases he with ⟨e1, e2⟩ | ⟨e1, e2⟩
        · rw [e1, e2, if_pos (by omega)]
          left; omega
        · rw [e2]
          generalize cr_sg g * b.toInt = w at *
          rw [if_neg (by omega)]
          omega
  · have hz : ya_zv N (fun q => ya_zc (B q)) (nI q) = ya_zc (B q) := ya_zv_c (by omega) (by omega)
    have he := ya_edge (q := q) (w := 0) hr (by omega) (by omega) (by omega)
    rw [ya_r5, cr_r5, hz, nI_clamp (n := q) (by omega), nI_clamp (n := q2) (by omega)]
    rw [cr_Fr_p rfl]
    dsimp only
    by_cases hx : q2 < N
    · have hz2 : ya_zv N (fun q => ya_zc (B q)) (nI q2) = ya_zc (B q2) := ya_zv_c (by omega) (by omega)
      have he2 := ya_edge (q := q2) (w := 0) hr (by omega) (by omega) (by omega)
      rw [if_pos hx, hz2]
      rcases he with ⟨e1, e2⟩ | ⟨e1, e2⟩ <;> rcases he2 with ⟨e3, e4⟩ | ⟨e3, e4⟩ <;> rw [e2, e4] <;> split <;> split <;> omega
    · have hz2 : ya_zv N (fun q => ya_zc (B q)) (nI q2) = 1000000 := ya_zv_o (by omega) (by omega)
      rw [if_neg hx, hz2, t0]
      rcases he with ⟨e1, e2⟩ | ⟨e1, e2⟩ <;> rw [e2] <;> split <;> split <;> omega
  · have hz : ya_zv N (fun q => ya_zc (B q)) (nI q) = ya_zc (B q) := ya_zv_c (by omega) (by omega)
    have hz2 : ya_zv N (fun q => ya_zc (B q)) (nI q2) = ya_zc (B q2) := ya_zv_c (by omega) (by omega)
    have he := ya_edge (q := q) (w := 0) hr (by omega) (by omega) (by omega)
    have he2 := ya_edge (q := q2) (w := 0) hr (by omega) (by omega) (by omega)
    have he3 := ya_edge (q := q2) (w := -1) hr (by omega) (by omega) (by omega)
    rcases hc with rfl | rfl | rfl | rfl
    · rw [ya_r6, cr_r6, hz, hz2, nI_clamp (n := q) (by omega), nI_clamp (n := q2) (by omega)]
      rw [cr_Fr_n (by decide)]
      dsimp only
      by_cases hx : g = 3
      · simp only [if_pos hx]
        rw [t0]
        rcases he with ⟨e1, e2⟩ | ⟨e1, e2⟩ <;> rw [e2] <;> split <;> omega
      · simp only [if_neg hx]
        rcases he with ⟨e1, e2⟩ | ⟨e1, e2⟩ <;> rcases he3 with ⟨e3, e4⟩ | ⟨e3, e4⟩ <;> rw [e2, e4] <;> split <;> split <;> omega
    · rw [ya_r7, cr_r7, hz, hz2, nI_clamp (n := q) (by omega), nI_clamp (n := q2) (by omega)]
      rw [cr_Fr_n (by decide)]
      dsimp only
      by_cases hx : g = 3
      · simp only [if_pos hx]
        rw [t0]
        rcases he with ⟨e1, e2⟩ | ⟨e1, e2⟩ <;> rw [e2] <;> split <;> omega
      · simp only [if_neg hx]
        rcases he with ⟨e1, e2⟩ | ⟨e1, e2⟩ <;> rcases he2 with ⟨e3, e4⟩ | ⟨e3, e4⟩ <;> rw [e2, e4] <;> split <;> split <;> omega
    · rw [ya_r8, cr_r8, hz, hz2, nI_clamp (n := q) (by omega), nI_clamp (n := q2) (by omega)]
      rw [cr_Fr_n (by decide)]
      dsimp only
      by_cases hx : g = 3
      · simp only [if_pos hx]
        rcases he with ⟨e1, e2⟩ | ⟨e1, e2⟩ <;> rcases he3 with ⟨e3, e4⟩ | ⟨e3, e4⟩ <;> rw [e2, e4] <;> split <;> split <;> omega
      · simp only [if_neg hx]
        rw [t0]
        rcases he with ⟨e1, e2⟩ | ⟨e1, e2⟩ <;> rw [e2] <;> split <;> omega
    · rw [ya_r9, cr_r9, hz, hz2, nI_clamp (n := q) (by omega), nI_clamp (n := q2) (by omega)]
      rw [cr_Fr_n (by decide)]
      dsimp only
      by_cases hx : g = 3
      · simp only [if_pos hx]
        rcases he with ⟨e1, e2⟩ | ⟨e1, e2⟩ <;> rcases he2 with ⟨e3, e4⟩ | ⟨e3, e4⟩ <;> rw [e2, e4] <;> split <;> split <;> omega
      · simp only [if_neg hx]
        rw [t0]
        rcases he with ⟨e1, e2⟩ | ⟨e1, e2⟩ <;> rw [e2] <;> split <;> omega
  · have hz : ya_zv N (fun q => ya_zc (B q)) (nI q) = ya_zc (B q) := ya_zv_c (by omega) (by omega)
    have he := ya_edge (q := q) (w := 0) hr (by omega) (by omega) (by omega)
    rw [ya_r10, cr_r10, hz, nI_clamp (n := q) (by omega)]
    rw [cr_Fr_n (by decide)]
    dsimp only
    by_cases hx : g = 3
    · rw [if_pos (Or.inl hx), if_pos hx, if_pos hx, z0]
      rcases he with ⟨e1, e2⟩ | ⟨e1, e2⟩ <;> rw [e2] <;> split <;> split <;> omega
    · by_cases hy : nI k = nI g
      · rw [if_pos (Or.inr hy), if_neg hx, if_neg hx, if_pos hy, if_pos hy, m0]
        rcases he with ⟨e1, e2⟩ | ⟨e1, e2⟩ <;> rw [e2] <;> split <;> split <;> omega
      · have hz3 : ¬ (g = 3 ∨ nI k = nI g) := fun e => e.elim hx hy
        simp only [if_neg hz3, if_neg hx, if_neg hy]
        rw [t0]
        rcases he with ⟨e1, e2⟩ | ⟨e1, e2⟩ <;> rw [e2] <;> split <;> omega
  · rw [ya_r11 g 11 _ _ _ _ (Or.inl rfl), cr_r11]
    rw [cr_Fr_n (by decide)]
    dsimp only
    rw [t0, if_pos (by omega)]
    left; omega
  · rw [ya_r11 g 12 _ _ _ _ (Or.inr (Or.inl rfl)), cr_r12]
    rw [cr_Fr_n (by decide)]
    dsimp only
    rw [t0, if_pos (by omega)]
    left; omega
  · rw [ya_r11 g 13 _ _ _ _ (Or.inr (Or.inr (Or.inl rfl))), cr_r13]
    rw [cr_Fr_n (by decide)]
    dsimp only
    rw [t0, if_pos (by omega)]
    left; omega
  · rw [ya_r11 g 14 _ _ _ _ (Or.inr (Or.inr (Or.inr rfl))), cr_r14]
    rw [cr_Fr_n (by decide)]
    dsimp only
    rw [t0, if_pos (by omega)]
    left; omega
end YA
end
section
section YB
/-! the reference: walks of boundOf, upperRule, lowerRule (first written by a small program, kept as text) -/
variable {ce ac fn : Int32} {kd oA oB oC ln ip yb sa pc oc bv fl yv el ou : Nat → Int32}
variable {N g p CC AA : Nat}
def yb_v (N : Nat) (yb : Nat → Int32) (no x : Int32) : Int32 := if x < 0 then no else if nI N ≤ x then no else yb x.toNatClampNeg
theorem yb_bo (hN : N ≤ 32) {no x : Int32} {post : Int32 → Prop} (h : post (yb_v N yb no x)) : wpY_boundOf post (ce, ac, nI N, kd, oA, oB, oC, ln, ip, yb, sa, pc, oc, bv, fl, yv, el, ou) x no := by
  unfold wpY_boundOf
  dsimp only
  unfold yb_v at h
  by_cases h1 : x < 0
  · rw [if_pos h1] at h
    exact br_t h1 h
  · rw [if_neg h1] at h
    refine br_f h1 ?_
    by_cases h2 : nI N ≤ x
    · rw [if_pos h2] at h
      exact br_t h2 h
    · rw [if_neg h2] at h
      refine br_f h2 ⟨?_, h⟩
      obtain ⟨j, hj, rfl⟩ := nI_of h1
      rw [nI_leI (by omega) hj] at h2
      exact vp_in_nI (by omega) (by omega)
theorem yb_vU {z : Nat → Int} (hN : N ≤ 32) (h : ∀ q, q < N → (yb q).toInt = z q) (x : Int32) : (yb_v N yb 1000000 x).toInt = ya_zv N z x := by
  unfold yb_v ya_zv
  by_cases h1 : x < 0
  · rw [if_pos h1, if_pos h1]; exact qn_far
  · rw [if_neg h1, if_neg h1]
    by_cases h2 : nI N ≤ x
    · rw [if_pos h2, if_pos h2]; exact qn_far
    · rw [if_neg h2, if_neg h2]
      obtain ⟨j, hj, rfl⟩ := nI_of h1
      rw [nI_leI (by omega) hj] at h2
      rw [nI_clamp hj]
      exact h j (by omega)
theorem yb_vL {z : Nat → Int} (hN : N ≤ 32) (h : ∀ q, q < N → (yb q).toInt = -(z q)) (x : Int32) : (yb_v N yb (-1000000) x).toInt = -(ya_zv N z x) := by
  unfold yb_v ya_zv
  by_cases h1 : x < 0
  · rw [if_pos h1, if_pos h1]; exact qn_mfar
  · rw [if_neg h1, if_neg h1]
    by_cases h2 : nI N ≤ x
    · rw [if_pos h2, if_pos h2]; exact qn_mfar
    · rw [if_neg h2, if_neg h2]
      obtain ⟨j, hj, rfl⟩ := nI_of h1
      rw [nI_leI (by omega) hj] at h2
      rw [nI_clamp hj]
      exact h j (by omega)
theorem yb_zr {z : Nat → Int} (h : ∀ q, q < N → -1000000 ≤ z q ∧ z q ≤ 1000000) (x : Int32) : -1000000 ≤ ya_zv N z x ∧ ya_zv N z x ≤ 1000000 := by
  unfold ya_zv
  by_cases h1 : x < 0
  · rw [if_pos h1]; omega
  · rw [if_neg h1]
    by_cases h2 : nI N ≤ x
    · rw [if_pos h2]; omega
    · rw [if_neg h2]
      obtain ⟨j, hj, rfl⟩ := nI_of h1
      by_cases h3 : j < N
      · rw [nI_clamp hj]; exact h j h3
      · exact absurd (nI_le (by omega) hj) h2
theorem yb_U0 (hN : N ≤ 32) (hp : p < N) (hg : g < 3) (hk : kd p = 0) {x y : Int} (hx : (yb_v N yb 1000000 (oA p)).toInt = x) (hy : (yb_v N yb 1000000 (oB p)).toInt = y) (hxr : -1000000 ≤ x ∧ x ≤ 1000000) (hyr : -1000000 ≤ y ∧ y ≤ 1000000) :
    ∃ r : Int32, r.toInt = ya_rule g 0 (oA p) (oB p) x y ∧ ∀ post : Int32 → Prop, post r → wpY_upperRule post (ce, ac, nI N, kd, oA, oB, oC, ln, ip, yb, sa, pc, oc, bv, fl, yv, el, ou) (nI p) (nI g) := by
  have i1 : vp_in (nI p) 32 := vp_in_nI (by omega) (by omega)
  have cl : (nI p).toNatClampNeg = p := nI_clamp (by omega)
  rw [ya_r0]
  have hsg : cr_sg g = 1 := if_neg (by omega)
  rw [hsg]
  refine ⟨oA p, ?_, fun post h => ?_⟩
  · omega
  · unfold wpY_upperRule
    dsimp only
    rw [cl]
    exact ⟨i1, nm_r hk ⟨i1, nm_e ⟨i1, nm_e (yb_bo hN (yb_bo hN (br_t rfl h)))⟩⟩⟩
theorem yb_U1 (hN : N ≤ 32) (hp : p < N) (hg : g < 3) (hk : kd p = 1) {x y : Int} (hx : (yb_v N yb 1000000 (oA p)).toInt = x) (hy : (yb_v N yb 1000000 (oB p)).toInt = y) (hxr : -1000000 ≤ x ∧ x ≤ 1000000) (hyr : -1000000 ≤ y ∧ y ≤ 1000000) :
    ∃ r : Int32, r.toInt = ya_rule g 1 (oA p) (oB p) x y ∧ ∀ post : Int32 → Prop, post r → wpY_upperRule post (ce, ac, nI N, kd, oA, oB, oC, ln, ip, yb, sa, pc, oc, bv, fl, yv, el, ou) (nI p) (nI g) := by
  have i1 : vp_in (nI p) 32 := vp_in_nI (by omega) (by omega)
  have cl : (nI p).toNatClampNeg = p := nI_clamp (by omega)
  rw [ya_r1]
  by_cases ha : oA p = nI g
  · rw [if_pos (Or.inr ha)]
    refine ⟨0, ?_, fun post h => ?_⟩
    · exact qn_0
    · unfold wpY_upperRule
      dsimp only
      rw [cl]
      exact ⟨i1, nm_r hk ⟨i1, nm_e ⟨i1, nm_e (yb_bo hN (yb_bo hN (br_f (by decide) (br_t rfl (br_t ha h)))))⟩⟩⟩
  · rw [if_neg (fun e => e.elim (by omega) ha)]
    refine ⟨1000000, ?_, fun post h => ?_⟩
    · exact qn_far
    · unfold wpY_upperRule
      dsimp only
      rw [cl]
      exact ⟨i1, nm_r hk ⟨i1, nm_e ⟨i1, nm_e (yb_bo hN (yb_bo hN (br_f (by decide) (br_t rfl (br_f ha h)))))⟩⟩⟩
theorem yb_U3 (hN : N ≤ 32) (hp : p < N) (hg : g < 3) (hk : kd p = 3) {x y : Int} (hx : (yb_v N yb 1000000 (oA p)).toInt = x) (hy : (yb_v N yb 1000000 (oB p)).toInt = y) (hxr : -1000000 ≤ x ∧ x ≤ 1000000) (hyr : -1000000 ≤ y ∧ y ≤ 1000000) (hb1 : -4 ≤ (oB p).toInt) (hb2 : (oB p).toInt ≤ 4) :
    ∃ r : Int32, r.toInt = ya_rule g 3 (oA p) (oB p) x y ∧ ∀ post : Int32 → Prop, post r → wpY_upperRule post (ce, ac, nI N, kd, oA, oB, oC, ln, ip, yb, sa, pc, oc, bv, fl, yv, el, ou) (nI p) (nI g) := by
  have i1 : vp_in (nI p) 32 := vp_in_nI (by omega) (by omega)
  have cl : (nI p).toNatClampNeg = p := nI_clamp (by omega)
  rw [ya_r3]
  have hsg : cr_sg g = 1 := if_neg (by omega)
  rw [hsg]
  refine ⟨(yb_v N yb 1000000 (oA p)) + oB p, ?_, fun post h => ?_⟩
  · rw [qn_add hx rfl (by omega) (by omega)]; omega
  · unfold wpY_upperRule
    dsimp only
    rw [cl]
    exact ⟨i1, nm_r hk ⟨i1, nm_e ⟨i1, nm_e (yb_bo hN (yb_bo hN (br_f (by decide) (br_f (by decide) (br_t rfl h)))))⟩⟩⟩
theorem yb_U4 (hN : N ≤ 32) (hp : p < N) (hg : g < 3) (hk : kd p = 4) {x y : Int} (hx : (yb_v N yb 1000000 (oA p)).toInt = x) (hy : (yb_v N yb 1000000 (oB p)).toInt = y) (hxr : -1000000 ≤ x ∧ x ≤ 1000000) (hyr : -1000000 ≤ y ∧ y ≤ 1000000) (hb1 : -4 ≤ (oB p).toInt) (hb2 : (oB p).toInt ≤ 4) :
    ∃ r : Int32, r.toInt = ya_rule g 4 (oA p) (oB p) x y ∧ ∀ post : Int32 → Prop, post r → wpY_upperRule post (ce, ac, nI N, kd, oA, oB, oC, ln, ip, yb, sa, pc, oc, bv, fl, yv, el, ou) (nI p) (nI g) := by
  have i1 : vp_in (nI p) 32 := vp_in_nI (by omega) (by omega)
  have cl : (nI p).toNatClampNeg = p := nI_clamp (by omega)
  rw [ya_r4]
  have hsg : cr_sg g = 1 := if_neg (by omega)
  rw [hsg]
  by_cases hc : 1 * (oB p).toInt < 0
  · rw [if_pos hc]
    refine ⟨1000000, ?_, fun post h => ?_⟩
    · exact qn_far
    · unfold wpY_upperRule
      dsimp only
      rw [cl]
      exact ⟨i1, nm_r hk ⟨i1, nm_e ⟨i1, nm_e (yb_bo hN (yb_bo hN (br_f (by decide) (br_f (by decide) (br_f (by decide) (br_t rfl (br_t (by rw [qn_lt, qn_0]; omega) h)))))))⟩⟩⟩
  · rw [if_neg hc]
    refine ⟨(yb_v N yb 1000000 (oA p)) + oB p, ?_, fun post h => ?_⟩
    · rw [qn_add hx rfl (by omega) (by omega)]; omega
    · unfold wpY_upperRule
      dsimp only
      rw [cl]
      exact ⟨i1, nm_r hk ⟨i1, nm_e ⟨i1, nm_e (yb_bo hN (yb_bo hN (br_f (by decide) (br_f (by decide) (br_f (by decide) (br_t rfl (br_f (by rw [qn_lt, qn_0]; omega) h)))))))⟩⟩⟩
theorem yb_U5 (hN : N ≤ 32) (hp : p < N) (hg : g < 3) (hk : kd p = 5) {x y : Int} (hx : (yb_v N yb 1000000 (oA p)).toInt = x) (hy : (yb_v N yb 1000000 (oB p)).toInt = y) (hxr : -1000000 ≤ x ∧ x ≤ 1000000) (hyr : -1000000 ≤ y ∧ y ≤ 1000000) :
    ∃ r : Int32, r.toInt = ya_rule g 5 (oA p) (oB p) x y ∧ ∀ post : Int32 → Prop, post r → wpY_upperRule post (ce, ac, nI N, kd, oA, oB, oC, ln, ip, yb, sa, pc, oc, bv, fl, yv, el, ou) (nI p) (nI g) := by
  have i1 : vp_in (nI p) 32 := vp_in_nI (by omega) (by omega)
  have cl : (nI p).toNatClampNeg = p := nI_clamp (by omega)
  rw [ya_r5]
  by_cases hc : x ≤ y
  · rw [if_pos hc]
    refine ⟨(yb_v N yb 1000000 (oB p)), ?_, fun post h => ?_⟩
    · exact hy
    · unfold wpY_upperRule
      dsimp only
      rw [cl]
      exact ⟨i1, nm_r hk ⟨i1, nm_e ⟨i1, nm_e (yb_bo hN (yb_bo hN (br_f (by decide) (br_f (by decide) (br_f (by decide) (br_f (by decide) (br_t rfl (br_t (by rw [qn_le, hx, hy]; omega) h))))))))⟩⟩⟩
  · rw [if_neg hc]
    refine ⟨(yb_v N yb 1000000 (oA p)), ?_, fun post h => ?_⟩
    · exact hx
    · unfold wpY_upperRule
      dsimp only
      rw [cl]
      exact ⟨i1, nm_r hk ⟨i1, nm_e ⟨i1, nm_e (yb_bo hN (yb_bo hN (br_f (by decide) (br_f (by decide) (br_f (by decide) (br_f (by decide) (br_t rfl (br_f (by rw [qn_le, hx, hy]; omega) h))))))))⟩⟩⟩
theorem yb_U6 (hN : N ≤ 32) (hp : p < N) (hg : g < 3) (hk : kd p = 6) {x y : Int} (hx : (yb_v N yb 1000000 (oA p)).toInt = x) (hy : (yb_v N yb 1000000 (oB p)).toInt = y) (hxr : -1000000 ≤ x ∧ x ≤ 1000000) (hyr : -1000000 ≤ y ∧ y ≤ 1000000) :
    ∃ r : Int32, r.toInt = ya_rule g 6 (oA p) (oB p) x y ∧ ∀ post : Int32 → Prop, post r → wpY_upperRule post (ce, ac, nI N, kd, oA, oB, oC, ln, ip, yb, sa, pc, oc, bv, fl, yv, el, ou) (nI p) (nI g) := by
  have i1 : vp_in (nI p) 32 := vp_in_nI (by omega) (by omega)
  have cl : (nI p).toNatClampNeg = p := nI_clamp (by omega)
  rw [ya_r6]
  have hbm := qn_sub hy qn_1 (by omega) (by omega)
  rw [if_neg (by omega : ¬ g = 3)]
  by_cases hc : y - 1 ≤ x
  · rw [if_pos hc]
    refine ⟨(yb_v N yb 1000000 (oB p)) - 1, ?_, fun post h => ?_⟩
    · rw [hbm]; try omega
    · unfold wpY_upperRule
      dsimp only
      rw [cl]
      exact ⟨i1, nm_r hk ⟨i1, nm_e ⟨i1, nm_e (yb_bo hN (yb_bo hN (br_f (by decide) (br_f (by decide) (br_f (by decide) (br_f (by decide) (br_f (by decide) (br_t rfl (br_t (by rw [qn_le, hx, hbm]; omega) h)))))))))⟩⟩⟩
  · rw [if_neg hc]
    refine ⟨(yb_v N yb 1000000 (oA p)), ?_, fun post h => ?_⟩
    · exact hx
    · unfold wpY_upperRule
      dsimp only
      rw [cl]
      exact ⟨i1, nm_r hk ⟨i1, nm_e ⟨i1, nm_e (yb_bo hN (yb_bo hN (br_f (by decide) (br_f (by decide) (br_f (by decide) (br_f (by decide) (br_f (by decide) (br_t rfl (br_f (by rw [qn_le, hx, hbm]; omega) h)))))))))⟩⟩⟩
theorem yb_U7 (hN : N ≤ 32) (hp : p < N) (hg : g < 3) (hk : kd p = 7) {x y : Int} (hx : (yb_v N yb 1000000 (oA p)).toInt = x) (hy : (yb_v N yb 1000000 (oB p)).toInt = y) (hxr : -1000000 ≤ x ∧ x ≤ 1000000) (hyr : -1000000 ≤ y ∧ y ≤ 1000000) :
    ∃ r : Int32, r.toInt = ya_rule g 7 (oA p) (oB p) x y ∧ ∀ post : Int32 → Prop, post r → wpY_upperRule post (ce, ac, nI N, kd, oA, oB, oC, ln, ip, yb, sa, pc, oc, bv, fl, yv, el, ou) (nI p) (nI g) := by
  have i1 : vp_in (nI p) 32 := vp_in_nI (by omega) (by omega)
  have cl : (nI p).toNatClampNeg = p := nI_clamp (by omega)
  rw [ya_r7]
  rw [if_neg (by omega : ¬ g = 3)]
  by_cases hc : y ≤ x
  · rw [if_pos hc]
    refine ⟨(yb_v N yb 1000000 (oB p)), ?_, fun post h => ?_⟩
    · exact hy
    · unfold wpY_upperRule
      dsimp only
      rw [cl]
      exact ⟨i1, nm_r hk ⟨i1, nm_e ⟨i1, nm_e (yb_bo hN (yb_bo hN (br_f (by decide) (br_f (by decide) (br_f (by decide) (br_f (by decide) (br_f (by decide) (br_f (by decide) (br_t rfl (br_t (by rw [qn_le, hx, hy]; omega) h))))))))))⟩⟩⟩
  · rw [if_neg hc]
    refine ⟨(yb_v N yb 1000000 (oA p)), ?_, fun post h => ?_⟩
    · exact hx
    · unfold wpY_upperRule
      dsimp only
      rw [cl]
      exact ⟨i1, nm_r hk ⟨i1, nm_e ⟨i1, nm_e (yb_bo hN (yb_bo hN (br_f (by decide) (br_f (by decide) (br_f (by decide) (br_f (by decide) (br_f (by decide) (br_f (by decide) (br_t rfl (br_f (by rw [qn_le, hx, hy]; omega) h))))))))))⟩⟩⟩
theorem yb_U8 (hN : N ≤ 32) (hp : p < N) (hg : g < 3) (hk : kd p = 8) {x y : Int} (hx : (yb_v N yb 1000000 (oA p)).toInt = x) (hy : (yb_v N yb 1000000 (oB p)).toInt = y) (hxr : -1000000 ≤ x ∧ x ≤ 1000000) (hyr : -1000000 ≤ y ∧ y ≤ 1000000) :
    ∃ r : Int32, r.toInt = ya_rule g 8 (oA p) (oB p) x y ∧ ∀ post : Int32 → Prop, post r → wpY_upperRule post (ce, ac, nI N, kd, oA, oB, oC, ln, ip, yb, sa, pc, oc, bv, fl, yv, el, ou) (nI p) (nI g) := by
  have i1 : vp_in (nI p) 32 := vp_in_nI (by omega) (by omega)
  have cl : (nI p).toNatClampNeg = p := nI_clamp (by omega)
  rw [ya_r8]
  rw [if_neg (by omega : ¬ g = 3)]
  refine ⟨(yb_v N yb 1000000 (oA p)), ?_, fun post h => ?_⟩
  · exact hx
  · unfold wpY_upperRule
    dsimp only
    rw [cl]
    exact ⟨i1, nm_r hk ⟨i1, nm_e ⟨i1, nm_e (yb_bo hN (yb_bo hN (br_f (by decide) (br_f (by decide) (br_f (by decide) (br_f (by decide) (br_f (by decide) (br_f (by decide) (br_f (by decide) (br_t rfl h))))))))))⟩⟩⟩
theorem yb_U9 (hN : N ≤ 32) (hp : p < N) (hg : g < 3) (hk : kd p = 9) {x y : Int} (hx : (yb_v N yb 1000000 (oA p)).toInt = x) (hy : (yb_v N yb 1000000 (oB p)).toInt = y) (hxr : -1000000 ≤ x ∧ x ≤ 1000000) (hyr : -1000000 ≤ y ∧ y ≤ 1000000) :
    ∃ r : Int32, r.toInt = ya_rule g 9 (oA p) (oB p) x y ∧ ∀ post : Int32 → Prop, post r → wpY_upperRule post (ce, ac, nI N, kd, oA, oB, oC, ln, ip, yb, sa, pc, oc, bv, fl, yv, el, ou) (nI p) (nI g) := by
  have i1 : vp_in (nI p) 32 := vp_in_nI (by omega) (by omega)
  have cl : (nI p).toNatClampNeg = p := nI_clamp (by omega)
  rw [ya_r9]
  rw [if_neg (by omega : ¬ g = 3)]
  refine ⟨(yb_v N yb 1000000 (oA p)), ?_, fun post h => ?_⟩
  · exact hx
  · unfold wpY_upperRule
    dsimp only
    rw [cl]
    exact ⟨i1, nm_r hk ⟨i1, nm_e ⟨i1, nm_e (yb_bo hN (yb_bo hN (br_f (by decide) (br_f (by decide) (br_f (by decide) (br_f (by decide) (br_f (by decide) (br_f (by decide) (br_f (by decide) (br_f (by decide) (br_t rfl h)))))))))))⟩⟩⟩
theorem yb_U10 (hN : N ≤ 32) (hp : p < N) (hg : g < 3) (hk : kd p = 10) {x y : Int} (hx : (yb_v N yb 1000000 (oA p)).toInt = x) (hy : (yb_v N yb 1000000 (oB p)).toInt = y) (hxr : -1000000 ≤ x ∧ x ≤ 1000000) (hyr : -1000000 ≤ y ∧ y ≤ 1000000) :
    ∃ r : Int32, r.toInt = ya_rule g 10 (oA p) (oB p) x y ∧ ∀ post : Int32 → Prop, post r → wpY_upperRule post (ce, ac, nI N, kd, oA, oB, oC, ln, ip, yb, sa, pc, oc, bv, fl, yv, el, ou) (nI p) (nI g) := by
  have i1 : vp_in (nI p) 32 := vp_in_nI (by omega) (by omega)
  have cl : (nI p).toNatClampNeg = p := nI_clamp (by omega)
  rw [ya_r10]
  rw [if_neg (by omega : ¬ g = 3)]
  by_cases hb : oB p = nI g
  · rw [if_pos hb]
    by_cases hc : x ≤ -1
    · have e : (if -1 ≤ x then -1 else x) = x := by split <;> omega
      rw [e]
      refine ⟨(yb_v N yb 1000000 (oA p)), ?_, fun post h => ?_⟩
      · exact hx
      · unfold wpY_upperRule
        dsimp only
        rw [cl]
        exact ⟨i1, nm_r hk ⟨i1, nm_e ⟨i1, nm_e (yb_bo hN (yb_bo hN (br_f (by decide) (br_f (by decide) (br_f (by decide) (br_f (by decide) (br_f (by decide) (br_f (by decide) (br_f (by decide) (br_f (by decide) (br_f (by decide) (br_t rfl (br_t hb (br_t (by rw [qn_le, hx, qn_m1]; omega) h))))))))))))))⟩⟩⟩
    · rw [if_pos (by omega)]
      refine ⟨-1, ?_, fun post h => ?_⟩
      · exact qn_m1
      · unfold wpY_upperRule
        dsimp only
        rw [cl]
        exact ⟨i1, nm_r hk ⟨i1, nm_e ⟨i1, nm_e (yb_bo hN (yb_bo hN (br_f (by decide) (br_f (by decide) (br_f (by decide) (br_f (by decide) (br_f (by decide) (br_f (by decide) (br_f (by decide) (br_f (by decide) (br_f (by decide) (br_t rfl (br_t hb (br_f (by rw [qn_le, hx, qn_m1]; omega) h))))))))))))))⟩⟩⟩
  · rw [if_neg hb]
    refine ⟨(yb_v N yb 1000000 (oA p)), ?_, fun post h => ?_⟩
    · exact hx
    · unfold wpY_upperRule
      dsimp only
      rw [cl]
      exact ⟨i1, nm_r hk ⟨i1, nm_e ⟨i1, nm_e (yb_bo hN (yb_bo hN (br_f (by decide) (br_f (by decide) (br_f (by decide) (br_f (by decide) (br_f (by decide) (br_f (by decide) (br_f (by decide) (br_f (by decide) (br_f (by decide) (br_t rfl (br_f hb h)))))))))))))⟩⟩⟩
theorem yb_U2 (hN : N ≤ 32) (hp : p < N) (hg : g < 3) (hk : kd p = 2) {x y : Int} (hx : (yb_v N yb 1000000 (oA p)).toInt = x) (hy : (yb_v N yb 1000000 (oB p)).toInt = y) (hxr : -1000000 ≤ x ∧ x ≤ 1000000) (hyr : -1000000 ≤ y ∧ y ≤ 1000000) :
    ∃ r : Int32, r.toInt = ya_rule g 2 (oA p) (oB p) x y ∧ ∀ post : Int32 → Prop, post r → wpY_upperRule post (ce, ac, nI N, kd, oA, oB, oC, ln, ip, yb, sa, pc, oc, bv, fl, yv, el, ou) (nI p) (nI g) := by
  have i1 : vp_in (nI p) 32 := vp_in_nI (by omega) (by omega)
  have cl : (nI p).toNatClampNeg = p := nI_clamp (by omega)
  rw [ya_r2]
  refine ⟨1000000, ?_, fun post h => ?_⟩
  · exact qn_far
  · unfold wpY_upperRule
    dsimp only
    rw [cl]
    exact ⟨i1, nm_r hk ⟨i1, nm_e ⟨i1, nm_e (yb_bo hN (yb_bo hN (br_f (by decide) (br_f (by decide) (br_f (by decide) (br_f (by decide) (br_f (by decide) (br_f (by decide) (br_f (by decide) (br_f (by decide) (br_f (by decide) (br_f (by decide) (h)))))))))))))⟩⟩⟩
theorem yb_U11 (hN : N ≤ 32) (hp : p < N) (hg : g < 3) (hk : kd p = 11) {x y : Int} (hx : (yb_v N yb 1000000 (oA p)).toInt = x) (hy : (yb_v N yb 1000000 (oB p)).toInt = y) (hxr : -1000000 ≤ x ∧ x ≤ 1000000) (hyr : -1000000 ≤ y ∧ y ≤ 1000000) :
    ∃ r : Int32, r.toInt = ya_rule g 11 (oA p) (oB p) x y ∧ ∀ post : Int32 → Prop, post r → wpY_upperRule post (ce, ac, nI N, kd, oA, oB, oC, ln, ip, yb, sa, pc, oc, bv, fl, yv, el, ou) (nI p) (nI g) := by
  have i1 : vp_in (nI p) 32 := vp_in_nI (by omega) (by omega)
  have cl : (nI p).toNatClampNeg = p := nI_clamp (by omega)
  rw [ya_r11 _ _ _ _ _ _ (by decide)]
  refine ⟨1000000, ?_, fun post h => ?_⟩
  · exact qn_far
  · unfold wpY_upperRule
    dsimp only
    rw [cl]
    exact ⟨i1, nm_r hk ⟨i1, nm_e ⟨i1, nm_e (yb_bo hN (yb_bo hN (br_f (by decide) (br_f (by decide) (br_f (by decide) (br_f (by decide) (br_f (by decide) (br_f (by decide) (br_f (by decide) (br_f (by decide) (br_f (by decide) (br_f (by decide) (h)))))))))))))⟩⟩⟩
theorem yb_U12 (hN : N ≤ 32) (hp : p < N) (hg : g < 3) (hk : kd p = 12) {x y : Int} (hx : (yb_v N yb 1000000 (oA p)).toInt = x) (hy : (yb_v N yb 1000000 (oB p)).toInt = y) (hxr : -1000000 ≤ x ∧ x ≤ 1000000) (hyr : -1000000 ≤ y ∧ y ≤ 1000000) :
    ∃ r : Int32, r.toInt = ya_rule g 12 (oA p) (oB p) x y ∧ ∀ post : Int32 → Prop, post r → wpY_upperRule post (ce, ac, nI N, kd, oA, oB, oC, ln, ip, yb, sa, pc, oc, bv, fl, yv, el, ou) (nI p) (nI g) := by
  have i1 : vp_in (nI p) 32 := vp_in_nI (by omega) (by omega)
  have cl : (nI p).toNatClampNeg = p := nI_clamp (by omega)
  rw [ya_r11 _ _ _ _ _ _ (by decide)]
  refine ⟨1000000, ?_, fun post h => ?_⟩
  · exact qn_far
  · unfold wpY_upperRule
    dsimp only
    rw [cl]
    exact ⟨i1, nm_r hk ⟨i1, nm_e ⟨i1, nm_e (yb_bo hN (yb_bo hN (br_f (by decide) (br_f (by decide) (br_f (by decide) (br_f (by decide) (br_f (by decide) (br_f (by decide) (br_f (by decide) (br_f (by decide) (br_f (by decide) (br_f (by decide) (h)))))))))))))⟩⟩⟩
theorem yb_U13 (hN : N ≤ 32) (hp : p < N) (hg : g < 3) (hk : kd p = 13) {x y : Int} (hx : (yb_v N yb 1000000 (oA p)).toInt = x) (hy : (yb_v N yb 1000000 (oB p)).toInt = y) (hxr : -1000000 ≤ x ∧ x ≤ 1000000) (hyr : -1000000 ≤ y ∧ y ≤ 1000000) :
    ∃ r : Int32, r.toInt = ya_rule g 13 (oA p) (oB p) x y ∧ ∀ post : Int32 → Prop, post r → wpY_upperRule post (ce, ac, nI N, kd, oA, oB, oC, ln, ip, yb, sa, pc, oc, bv, fl, yv, el, ou) (nI p) (nI g) := by
  have i1 : vp_in (nI p) 32 := vp_in_nI (by omega) (by omega)
  have cl : (nI p).toNatClampNeg = p := nI_clamp (by omega)
  rw [ya_r11 _ _ _ _ _ _ (by decide)]
  refine ⟨1000000, ?_, fun post h => ?_⟩
  · exact qn_far
  · unfold wpY_upperRule
    dsimp only
    rw [cl]
    exact ⟨i1, nm_r hk ⟨i1, nm_e ⟨i1, nm_e (yb_bo hN (yb_bo hN (br_f (by decide) (br_f (by decide) (br_f (by decide) (br_f (by decide) (br_f (by decide) (br_f (by decide) (br_f (by decide) (br_f (by decide) (br_f (by decide) (br_f (by decide) (h)))))))))))))⟩⟩⟩
theorem yb_U14 (hN : N ≤ 32) (hp : p < N) (hg : g < 3) (hk : kd p = 14) {x y : Int} (hx : (yb_v N yb 1000000 (oA p)).toInt = x) (hy : (yb_v N yb 1000000 (oB p)).toInt = y) (hxr : -1000000 ≤ x ∧ x ≤ 1000000) (hyr : -1000000 ≤ y ∧ y ≤ 1000000) :
    ∃ r : Int32, r.toInt = ya_rule g 14 (oA p) (oB p) x y ∧ ∀ post : Int32 → Prop, post r → wpY_upperRule post (ce, ac, nI N, kd, oA, oB, oC, ln, ip, yb, sa, pc, oc, bv, fl, yv, el, ou) (nI p) (nI g) := by
  have i1 : vp_in (nI p) 32 := vp_in_nI (by omega) (by omega)
  have cl : (nI p).toNatClampNeg = p := nI_clamp (by omega)
  rw [ya_r11 _ _ _ _ _ _ (by decide)]
  refine ⟨1000000, ?_, fun post h => ?_⟩
  · exact qn_far
  · unfold wpY_upperRule
    dsimp only
    rw [cl]
    exact ⟨i1, nm_r hk ⟨i1, nm_e ⟨i1, nm_e (yb_bo hN (yb_bo hN (br_f (by decide) (br_f (by decide) (br_f (by decide) (br_f (by decide) (br_f (by decide) (br_f (by decide) (br_f (by decide) (br_f (by decide) (br_f (by decide) (br_f (by decide) (h)))))))))))))⟩⟩⟩
theorem yb_L0 (hN : N ≤ 32) (hp : p < N) (hk : kd p = 0) {x y : Int} (hx : (yb_v N yb (-1000000) (oA p)).toInt = -x) (hy : (yb_v N yb (-1000000) (oB p)).toInt = -y) (hxr : -1000000 ≤ x ∧ x ≤ 1000000) (hyr : -1000000 ≤ y ∧ y ≤ 1000000) :
    ∃ r : Int32, r.toInt = -(ya_rule 3 0 (oA p) (oB p) x y) ∧ ∀ post : Int32 → Prop, post r → wpY_lowerRule post (ce, ac, nI N, kd, oA, oB, oC, ln, ip, yb, sa, pc, oc, bv, fl, yv, el, ou) (nI p) := by
  have i1 : vp_in (nI p) 32 := vp_in_nI (by omega) (by omega)
  have cl : (nI p).toNatClampNeg = p := nI_clamp (by omega)
  rw [ya_r0]
  have hsg : cr_sg 3 = -1 := rfl
  rw [hsg]
  refine ⟨oA p, ?_, fun post h => ?_⟩
  · omega
  · unfold wpY_lowerRule
    dsimp only
    rw [cl]
    exact ⟨i1, nm_r hk ⟨i1, nm_e ⟨i1, nm_e (yb_bo hN (yb_bo hN (br_t rfl h)))⟩⟩⟩
theorem yb_L1 (hN : N ≤ 32) (hp : p < N) (hk : kd p = 1) {x y : Int} (hx : (yb_v N yb (-1000000) (oA p)).toInt = -x) (hy : (yb_v N yb (-1000000) (oB p)).toInt = -y) (hxr : -1000000 ≤ x ∧ x ≤ 1000000) (hyr : -1000000 ≤ y ∧ y ≤ 1000000) :
    ∃ r : Int32, r.toInt = -(ya_rule 3 1 (oA p) (oB p) x y) ∧ ∀ post : Int32 → Prop, post r → wpY_lowerRule post (ce, ac, nI N, kd, oA, oB, oC, ln, ip, yb, sa, pc, oc, bv, fl, yv, el, ou) (nI p) := by
  have i1 : vp_in (nI p) 32 := vp_in_nI (by omega) (by omega)
  have cl : (nI p).toNatClampNeg = p := nI_clamp (by omega)
  rw [ya_r1]
  rw [if_pos (Or.inl rfl)]
  refine ⟨0, ?_, fun post h => ?_⟩
  · exact qn_0
  · unfold wpY_lowerRule
    dsimp only
    rw [cl]
    exact ⟨i1, nm_r hk ⟨i1, nm_e ⟨i1, nm_e (yb_bo hN (yb_bo hN (br_f (by decide) (br_t rfl h))))⟩⟩⟩
theorem yb_L3 (hN : N ≤ 32) (hp : p < N) (hk : kd p = 3) {x y : Int} (hx : (yb_v N yb (-1000000) (oA p)).toInt = -x) (hy : (yb_v N yb (-1000000) (oB p)).toInt = -y) (hxr : -1000000 ≤ x ∧ x ≤ 1000000) (hyr : -1000000 ≤ y ∧ y ≤ 1000000) (hb1 : -4 ≤ (oB p).toInt) (hb2 : (oB p).toInt ≤ 4) :
    ∃ r : Int32, r.toInt = -(ya_rule 3 3 (oA p) (oB p) x y) ∧ ∀ post : Int32 → Prop, post r → wpY_lowerRule post (ce, ac, nI N, kd, oA, oB, oC, ln, ip, yb, sa, pc, oc, bv, fl, yv, el, ou) (nI p) := by
  have i1 : vp_in (nI p) 32 := vp_in_nI (by omega) (by omega)
  have cl : (nI p).toNatClampNeg = p := nI_clamp (by omega)
  rw [ya_r3]
  have hsg : cr_sg 3 = -1 := rfl
  rw [hsg]
  refine ⟨(yb_v N yb (-1000000) (oA p)) + oB p, ?_, fun post h => ?_⟩
  · rw [qn_add hx rfl (by omega) (by omega)]; omega
  · unfold wpY_lowerRule
    dsimp only
    rw [cl]
    exact ⟨i1, nm_r hk ⟨i1, nm_e ⟨i1, nm_e (yb_bo hN (yb_bo hN (br_f (by decide) (br_f (by decide) (br_t rfl h)))))⟩⟩⟩
theorem yb_L4 (hN : N ≤ 32) (hp : p < N) (hk : kd p = 4) {x y : Int} (hx : (yb_v N yb (-1000000) (oA p)).toInt = -x) (hy : (yb_v N yb (-1000000) (oB p)).toInt = -y) (hxr : -1000000 ≤ x ∧ x ≤ 1000000) (hyr : -1000000 ≤ y ∧ y ≤ 1000000) (hb1 : -4 ≤ (oB p).toInt) (hb2 : (oB p).toInt ≤ 4) :
    ∃ r : Int32, r.toInt = -(ya_rule 3 4 (oA p) (oB p) x y) ∧ ∀ post : Int32 → Prop, post r → wpY_lowerRule post (ce, ac, nI N, kd, oA, oB, oC, ln, ip, yb, sa, pc, oc, bv, fl, yv, el, ou) (nI p) := by
  have i1 : vp_in (nI p) 32 := vp_in_nI (by omega) (by omega)
  have cl : (nI p).toNatClampNeg = p := nI_clamp (by omega)
  rw [ya_r4]
  have hsg : cr_sg 3 = -1 := rfl
  rw [hsg]
  by_cases hc : -1 * (oB p).toInt < 0
  · rw [if_pos hc]
    refine ⟨-1000000, ?_, fun post h => ?_⟩
    · exact qn_mfar
    · unfold wpY_lowerRule
      dsimp only
      rw [cl]
      exact ⟨i1, nm_r hk ⟨i1, nm_e ⟨i1, nm_e (yb_bo hN (yb_bo hN (br_f (by decide) (br_f (by decide) (br_f (by decide) (br_t rfl (br_t (by rw [qn_lt, qn_0]; omega) h)))))))⟩⟩⟩
  · rw [if_neg hc]
    refine ⟨(yb_v N yb (-1000000) (oA p)) + oB p, ?_, fun post h => ?_⟩
    · rw [qn_add hx rfl (by omega) (by omega)]; omega
    · unfold wpY_lowerRule
      dsimp only
      rw [cl]
      exact ⟨i1, nm_r hk ⟨i1, nm_e ⟨i1, nm_e (yb_bo hN (yb_bo hN (br_f (by decide) (br_f (by decide) (br_f (by decide) (br_t rfl (br_f (by rw [qn_lt, qn_0]; omega) h)))))))⟩⟩⟩
theorem yb_L5 (hN : N ≤ 32) (hp : p < N) (hk : kd p = 5) {x y : Int} (hx : (yb_v N yb (-1000000) (oA p)).toInt = -x) (hy : (yb_v N yb (-1000000) (oB p)).toInt = -y) (hxr : -1000000 ≤ x ∧ x ≤ 1000000) (hyr : -1000000 ≤ y ∧ y ≤ 1000000) :
    ∃ r : Int32, r.toInt = -(ya_rule 3 5 (oA p) (oB p) x y) ∧ ∀ post : Int32 → Prop, post r → wpY_lowerRule post (ce, ac, nI N, kd, oA, oB, oC, ln, ip, yb, sa, pc, oc, bv, fl, yv, el, ou) (nI p) := by
  have i1 : vp_in (nI p) 32 := vp_in_nI (by omega) (by omega)
  have cl : (nI p).toNatClampNeg = p := nI_clamp (by omega)
  rw [ya_r5]
  by_cases hc : x ≤ y
  · rw [if_pos hc]
    refine ⟨(yb_v N yb (-1000000) (oB p)), ?_, fun post h => ?_⟩
    · exact hy
    · unfold wpY_lowerRule
      dsimp only
      rw [cl]
      exact ⟨i1, nm_r hk ⟨i1, nm_e ⟨i1, nm_e (yb_bo hN (yb_bo hN (br_f (by decide) (br_f (by decide) (br_f (by decide) (br_f (by decide) (br_t rfl (br_t (by rw [qn_le, hx, hy]; omega) h))))))))⟩⟩⟩
  · rw [if_neg hc]
    refine ⟨(yb_v N yb (-1000000) (oA p)), ?_, fun post h => ?_⟩
    · exact hx
    · unfold wpY_lowerRule
      dsimp only
      rw [cl]
      exact ⟨i1, nm_r hk ⟨i1, nm_e ⟨i1, nm_e (yb_bo hN (yb_bo hN (br_f (by decide) (br_f (by decide) (br_f (by decide) (br_f (by decide) (br_t rfl (br_f (by rw [qn_le, hx, hy]; omega) h))))))))⟩⟩⟩
theorem yb_L8 (hN : N ≤ 32) (hp : p < N) (hk : kd p = 8) {x y : Int} (hx : (yb_v N yb (-1000000) (oA p)).toInt = -x) (hy : (yb_v N yb (-1000000) (oB p)).toInt = -y) (hxr : -1000000 ≤ x ∧ x ≤ 1000000) (hyr : -1000000 ≤ y ∧ y ≤ 1000000) :
    ∃ r : Int32, r.toInt = -(ya_rule 3 8 (oA p) (oB p) x y) ∧ ∀ post : Int32 → Prop, post r → wpY_lowerRule post (ce, ac, nI N, kd, oA, oB, oC, ln, ip, yb, sa, pc, oc, bv, fl, yv, el, ou) (nI p) := by
  have i1 : vp_in (nI p) 32 := vp_in_nI (by omega) (by omega)
  have cl : (nI p).toNatClampNeg = p := nI_clamp (by omega)
  rw [ya_r8]
  have hbm := qn_add hy qn_1 (by omega) (by omega)
  rw [if_pos rfl]
  by_cases hc : y - 1 ≤ x
  · rw [if_pos hc]
    refine ⟨(yb_v N yb (-1000000) (oB p)) + 1, ?_, fun post h => ?_⟩
    · rw [hbm]; try omega
    · unfold wpY_lowerRule
      dsimp only
      rw [cl]
      exact ⟨i1, nm_r hk ⟨i1, nm_e ⟨i1, nm_e (yb_bo hN (yb_bo hN (br_f (by decide) (br_f (by decide) (br_f (by decide) (br_f (by decide) (br_f (by decide) (br_t rfl (br_t (by rw [qn_le, hx, hbm]; omega) h)))))))))⟩⟩⟩
  · rw [if_neg hc]
    refine ⟨(yb_v N yb (-1000000) (oA p)), ?_, fun post h => ?_⟩
    · exact hx
    · unfold wpY_lowerRule
      dsimp only
      rw [cl]
      exact ⟨i1, nm_r hk ⟨i1, nm_e ⟨i1, nm_e (yb_bo hN (yb_bo hN (br_f (by decide) (br_f (by decide) (br_f (by decide) (br_f (by decide) (br_f (by decide) (br_t rfl (br_f (by rw [qn_le, hx, hbm]; omega) h)))))))))⟩⟩⟩
theorem yb_L9 (hN : N ≤ 32) (hp : p < N) (hk : kd p = 9) {x y : Int} (hx : (yb_v N yb (-1000000) (oA p)).toInt = -x) (hy : (yb_v N yb (-1000000) (oB p)).toInt = -y) (hxr : -1000000 ≤ x ∧ x ≤ 1000000) (hyr : -1000000 ≤ y ∧ y ≤ 1000000) :
    ∃ r : Int32, r.toInt = -(ya_rule 3 9 (oA p) (oB p) x y) ∧ ∀ post : Int32 → Prop, post r → wpY_lowerRule post (ce, ac, nI N, kd, oA, oB, oC, ln, ip, yb, sa, pc, oc, bv, fl, yv, el, ou) (nI p) := by
  have i1 : vp_in (nI p) 32 := vp_in_nI (by omega) (by omega)
  have cl : (nI p).toNatClampNeg = p := nI_clamp (by omega)
  rw [ya_r9]
  rw [if_pos rfl]
  by_cases hc : y ≤ x
  · rw [if_pos hc]
    refine ⟨(yb_v N yb (-1000000) (oB p)), ?_, fun post h => ?_⟩
    · exact hy
    · unfold wpY_lowerRule
      dsimp only
      rw [cl]
      exact ⟨i1, nm_r hk ⟨i1, nm_e ⟨i1, nm_e (yb_bo hN (yb_bo hN (br_f (by decide) (br_f (by decide) (br_f (by decide) (br_f (by decide) (br_f (by decide) (br_f (by decide) (br_t rfl (br_t (by rw [qn_le, hx, hy]; omega) h))))))))))⟩⟩⟩
  · rw [if_neg hc]
    refine ⟨(yb_v N yb (-1000000) (oA p)), ?_, fun post h => ?_⟩
    · exact hx
    · unfold wpY_lowerRule
      dsimp only
      rw [cl]
      exact ⟨i1, nm_r hk ⟨i1, nm_e ⟨i1, nm_e (yb_bo hN (yb_bo hN (br_f (by decide) (br_f (by decide) (br_f (by decide) (br_f (by decide) (br_f (by decide) (br_f (by decide) (br_t rfl (br_f (by rw [qn_le, hx, hy]; omega) h))))))))))⟩⟩⟩
theorem yb_L6 (hN : N ≤ 32) (hp : p < N) (hk : kd p = 6) {x y : Int} (hx : (yb_v N yb (-1000000) (oA p)).toInt = -x) (hy : (yb_v N yb (-1000000) (oB p)).toInt = -y) (hxr : -1000000 ≤ x ∧ x ≤ 1000000) (hyr : -1000000 ≤ y ∧ y ≤ 1000000) :
    ∃ r : Int32, r.toInt = -(ya_rule 3 6 (oA p) (oB p) x y) ∧ ∀ post : Int32 → Prop, post r → wpY_lowerRule post (ce, ac, nI N, kd, oA, oB, oC, ln, ip, yb, sa, pc, oc, bv, fl, yv, el, ou) (nI p) := by
  have i1 : vp_in (nI p) 32 := vp_in_nI (by omega) (by omega)
  have cl : (nI p).toNatClampNeg = p := nI_clamp (by omega)
  rw [ya_r6]
  rw [if_pos rfl]
  refine ⟨(yb_v N yb (-1000000) (oA p)), ?_, fun post h => ?_⟩
  · exact hx
  · unfold wpY_lowerRule
    dsimp only
    rw [cl]
    exact ⟨i1, nm_r hk ⟨i1, nm_e ⟨i1, nm_e (yb_bo hN (yb_bo hN (br_f (by decide) (br_f (by decide) (br_f (by decide) (br_f (by decide) (br_f (by decide) (br_f (by decide) (br_f (by decide) (br_t rfl h))))))))))⟩⟩⟩
theorem yb_L7 (hN : N ≤ 32) (hp : p < N) (hk : kd p = 7) {x y : Int} (hx : (yb_v N yb (-1000000) (oA p)).toInt = -x) (hy : (yb_v N yb (-1000000) (oB p)).toInt = -y) (hxr : -1000000 ≤ x ∧ x ≤ 1000000) (hyr : -1000000 ≤ y ∧ y ≤ 1000000) :
    ∃ r : Int32, r.toInt = -(ya_rule 3 7 (oA p) (oB p) x y) ∧ ∀ post : Int32 → Prop, post r → wpY_lowerRule post (ce, ac, nI N, kd, oA, oB, oC, ln, ip, yb, sa, pc, oc, bv, fl, yv, el, ou) (nI p) := by
  have i1 : vp_in (nI p) 32 := vp_in_nI (by omega) (by omega)
  have cl : (nI p).toNatClampNeg = p := nI_clamp (by omega)
  rw [ya_r7]
  rw [if_pos rfl]
  refine ⟨(yb_v N yb (-1000000) (oA p)), ?_, fun post h => ?_⟩
  · exact hx
  · unfold wpY_lowerRule
    dsimp only
    rw [cl]
    exact ⟨i1, nm_r hk ⟨i1, nm_e ⟨i1, nm_e (yb_bo hN (yb_bo hN (br_f (by decide) (br_f (by decide) (br_f (by decide) (br_f (by decide) (br_f (by decide) (br_f (by decide) (br_f (by decide) (br_f (by decide) (br_t rfl h)))))))))))⟩⟩⟩
theorem yb_L10 (hN : N ≤ 32) (hp : p < N) (hk : kd p = 10) {x y : Int} (hx : (yb_v N yb (-1000000) (oA p)).toInt = -x) (hy : (yb_v N yb (-1000000) (oB p)).toInt = -y) (hxr : -1000000 ≤ x ∧ x ≤ 1000000) (hyr : -1000000 ≤ y ∧ y ≤ 1000000) :
    ∃ r : Int32, r.toInt = -(ya_rule 3 10 (oA p) (oB p) x y) ∧ ∀ post : Int32 → Prop, post r → wpY_lowerRule post (ce, ac, nI N, kd, oA, oB, oC, ln, ip, yb, sa, pc, oc, bv, fl, yv, el, ou) (nI p) := by
  have i1 : vp_in (nI p) 32 := vp_in_nI (by omega) (by omega)
  have cl : (nI p).toNatClampNeg = p := nI_clamp (by omega)
  rw [ya_r10]
  rw [if_pos rfl]
  by_cases hc : 0 ≤ x
  · rw [if_pos hc]
    refine ⟨0, ?_, fun post h => ?_⟩
    · exact qn_0
    · unfold wpY_lowerRule
      dsimp only
      rw [cl]
      exact ⟨i1, nm_r hk ⟨i1, nm_e ⟨i1, nm_e (yb_bo hN (yb_bo hN (br_f (by decide) (br_f (by decide) (br_f (by decide) (br_f (by decide) (br_f (by decide) (br_f (by decide) (br_f (by decide) (br_f (by decide) (br_f (by decide) (br_t rfl (br_t (by rw [qn_le, hx, qn_0]; omega) h)))))))))))))⟩⟩⟩
  · rw [if_neg hc]
    refine ⟨(yb_v N yb (-1000000) (oA p)), ?_, fun post h => ?_⟩
    · exact hx
    · unfold wpY_lowerRule
      dsimp only
      rw [cl]
      exact ⟨i1, nm_r hk ⟨i1, nm_e ⟨i1, nm_e (yb_bo hN (yb_bo hN (br_f (by decide) (br_f (by decide) (br_f (by decide) (br_f (by decide) (br_f (by decide) (br_f (by decide) (br_f (by decide) (br_f (by decide) (br_f (by decide) (br_t rfl (br_f (by rw [qn_le, hx, qn_0]; omega) h)))))))))))))⟩⟩⟩
theorem yb_L2 (hN : N ≤ 32) (hp : p < N) (hk : kd p = 2) {x y : Int} (hx : (yb_v N yb (-1000000) (oA p)).toInt = -x) (hy : (yb_v N yb (-1000000) (oB p)).toInt = -y) (hxr : -1000000 ≤ x ∧ x ≤ 1000000) (hyr : -1000000 ≤ y ∧ y ≤ 1000000) :
    ∃ r : Int32, r.toInt = -(ya_rule 3 2 (oA p) (oB p) x y) ∧ ∀ post : Int32 → Prop, post r → wpY_lowerRule post (ce, ac, nI N, kd, oA, oB, oC, ln, ip, yb, sa, pc, oc, bv, fl, yv, el, ou) (nI p) := by
  have i1 : vp_in (nI p) 32 := vp_in_nI (by omega) (by omega)
  have cl : (nI p).toNatClampNeg = p := nI_clamp (by omega)
  rw [ya_r2]
  refine ⟨-1000000, ?_, fun post h => ?_⟩
  · exact qn_mfar
  · unfold wpY_lowerRule
    dsimp only
    rw [cl]
    exact ⟨i1, nm_r hk ⟨i1, nm_e ⟨i1, nm_e (yb_bo hN (yb_bo hN (br_f (by decide) (br_f (by decide) (br_f (by decide) (br_f (by decide) (br_f (by decide) (br_f (by decide) (br_f (by decide) (br_f (by decide) (br_f (by decide) (br_f (by decide) (h)))))))))))))⟩⟩⟩
theorem yb_L11 (hN : N ≤ 32) (hp : p < N) (hk : kd p = 11) {x y : Int} (hx : (yb_v N yb (-1000000) (oA p)).toInt = -x) (hy : (yb_v N yb (-1000000) (oB p)).toInt = -y) (hxr : -1000000 ≤ x ∧ x ≤ 1000000) (hyr : -1000000 ≤ y ∧ y ≤ 1000000) :
    ∃ r : Int32, r.toInt = -(ya_rule 3 11 (oA p) (oB p) x y) ∧ ∀ post : Int32 → Prop, post r → wpY_lowerRule post (ce, ac, nI N, kd, oA, oB, oC, ln, ip, yb, sa, pc, oc, bv, fl, yv, el, ou) (nI p) := by
  have i1 : vp_in (nI p) 32 := vp_in_nI (by omega) (by omega)
  have cl : (nI p).toNatClampNeg = p := nI_clamp (by omega)
  rw [ya_r11 _ _ _ _ _ _ (by decide)]
  refine ⟨-1000000, ?_, fun post h => ?_⟩
  · exact qn_mfar
  · unfold wpY_lowerRule
    dsimp only
    rw [cl]
    exact ⟨i1, nm_r hk ⟨i1, nm_e ⟨i1, nm_e (yb_bo hN (yb_bo hN (br_f (by decide) (br_f (by decide) (br_f (by decide) (br_f (by decide) (br_f (by decide) (br_f (by decide) (br_f (by decide) (br_f (by decide) (br_f (by decide) (br_f (by decide) (h)))))))))))))⟩⟩⟩
theorem yb_L12 (hN : N ≤ 32) (hp : p < N) (hk : kd p = 12) {x y : Int} (hx : (yb_v N yb (-1000000) (oA p)).toInt = -x) (hy : (yb_v N yb (-1000000) (oB p)).toInt = -y) (hxr : -1000000 ≤ x ∧ x ≤ 1000000) (hyr : -1000000 ≤ y ∧ y ≤ 1000000) :
    ∃ r : Int32, r.toInt = -(ya_rule 3 12 (oA p) (oB p) x y) ∧ ∀ post : Int32 → Prop, post r → wpY_lowerRule post (ce, ac, nI N, kd, oA, oB, oC, ln, ip, yb, sa, pc, oc, bv, fl, yv, el, ou) (nI p) := by
  have i1 : vp_in (nI p) 32 := vp_in_nI (by omega) (by omega)
  have cl : (nI p).toNatClampNeg = p := nI_clamp (by omega)
  rw [ya_r11 _ _ _ _ _ _ (by decide)]
  refine ⟨-1000000, ?_, fun post h => ?_⟩
  · exact qn_mfar
  · unfold wpY_lowerRule
    dsimp only
    rw [cl]
    exact ⟨i1, nm_r hk ⟨i1, nm_e ⟨i1, nm_e (yb_bo hN (yb_bo hN (br_f (by decide) (br_f (by decide) (br_f (by decide) (br_f (by decide) (br_f (by decide) (br_f (by decide) (br_f (by decide) (br_f (by decide) (br_f (by decide) (br_f (by decide) (h)))))))))))))⟩⟩⟩
theorem yb_L13 (hN : N ≤ 32) (hp : p < N) (hk : kd p = 13) {x y : Int} (hx : (yb_v N yb (-1000000) (oA p)).toInt = -x) (hy : (yb_v N yb (-1000000) (oB p)).toInt = -y) (hxr : -1000000 ≤ x ∧ x ≤ 1000000) (hyr : -1000000 ≤ y ∧ y ≤ 1000000) :
    ∃ r : Int32, r.toInt = -(ya_rule 3 13 (oA p) (oB p) x y) ∧ ∀ post : Int32 → Prop, post r → wpY_lowerRule post (ce, ac, nI N, kd, oA, oB, oC, ln, ip, yb, sa, pc, oc, bv, fl, yv, el, ou) (nI p) := by
  have i1 : vp_in (nI p) 32 := vp_in_nI (by omega) (by omega)
  have cl : (nI p).toNatClampNeg = p := nI_clamp (by omega)
  rw [ya_r11 _ _ _ _ _ _ (by decide)]
  refine ⟨-1000000, ?_, fun post h => ?_⟩
  · exact qn_mfar
  · unfold wpY_lowerRule
    dsimp only
    rw [cl]
    exact ⟨i1, nm_r hk ⟨i1, nm_e ⟨i1, nm_e (yb_bo hN (yb_bo hN (br_f (by decide) (br_f (by decide) (br_f (by decide) (br_f (by decide) (br_f (by decide) (br_f (by decide) (br_f (by decide) (br_f (by decide) (br_f (by decide) (br_f (by decide) (h)))))))))))))⟩⟩⟩
theorem yb_L14 (hN : N ≤ 32) (hp : p < N) (hk : kd p = 14) {x y : Int} (hx : (yb_v N yb (-1000000) (oA p)).toInt = -x) (hy : (yb_v N yb (-1000000) (oB p)).toInt = -y) (hxr : -1000000 ≤ x ∧ x ≤ 1000000) (hyr : -1000000 ≤ y ∧ y ≤ 1000000) :
    ∃ r : Int32, r.toInt = -(ya_rule 3 14 (oA p) (oB p) x y) ∧ ∀ post : Int32 → Prop, post r → wpY_lowerRule post (ce, ac, nI N, kd, oA, oB, oC, ln, ip, yb, sa, pc, oc, bv, fl, yv, el, ou) (nI p) := by
  have i1 : vp_in (nI p) 32 := vp_in_nI (by omega) (by omega)
  have cl : (nI p).toNatClampNeg = p := nI_clamp (by omega)
  rw [ya_r11 _ _ _ _ _ _ (by decide)]
  refine ⟨-1000000, ?_, fun post h => ?_⟩
  · exact qn_mfar
  · unfold wpY_lowerRule
    dsimp only
    rw [cl]
    exact ⟨i1, nm_r hk ⟨i1, nm_e ⟨i1, nm_e (yb_bo hN (yb_bo hN (br_f (by decide) (br_f (by decide) (br_f (by decide) (br_f (by decide) (br_f (by decide) (br_f (by decide) (br_f (by decide) (br_f (by decide) (br_f (by decide) (br_f (by decide) (h)))))))))))))⟩⟩⟩
theorem yb_up (hC : CC ≤ 32) (hN : N ≤ CC) (hp : p < N) (hg : g < 3) (hk : cr_ok CC AA p kd (kd p) (oA p) (oB p) (oC p)) {z : Nat → Int} (hz : ∀ q, q < N → (yb q).toInt = z q) (hr : ∀ q, q < N → -1000000 ≤ z q ∧ z q ≤ 1000000) :
    ∃ r : Int32, r.toInt = ya_rule g (kd p) (oA p) (oB p) (ya_zv N z (oA p)) (ya_zv N z (oB p)) ∧ ∀ post : Int32 → Prop, post r → wpY_upperRule post (ce, ac, nI N, kd, oA, oB, oC, ln, ip, yb, sa, pc, oc, bv, fl, yv, el, ou) (nI p) (nI g) := by
  have hN2 : N ≤ 32 := by omega
  have hx := yb_vU hN2 hz (oA p)
  have hy := yb_vU hN2 hz (oB p)
  have hxr := yb_zr hr (oA p)
  have hyr := yb_zr hr (oB p)
  rcases hk with ⟨e, h1, h2⟩ | ⟨e, k, hk, ha⟩ | ⟨e, k, hk, ha⟩ | ⟨e, ⟨q, hq, ha⟩, h1, h2⟩ | ⟨e, ⟨q, hq, ha⟩, q2, hq2, hb⟩ | ⟨e, ⟨q, hq, ha⟩, ⟨q2, hq2, hb⟩, q3, hq3, hd⟩ |
    ⟨e, ⟨q, hq, ha⟩, k, hk, hb⟩ | ⟨e, q, hq, ha, hk⟩ | ⟨e, ⟨q, hq, ha, hk⟩, q2, hq2, hb⟩ | ⟨e, q, hq, ha⟩ | ⟨e, q, hq, ha⟩
  · rw [e]; exact yb_U0 hN2 hp hg e hx hy hxr hyr
  · rw [e]; exact yb_U1 hN2 hp hg e hx hy hxr hyr
  · rw [e]; exact yb_U2 hN2 hp hg e hx hy hxr hyr
  · rcases e with e | e
    · rw [e]; exact yb_U3 hN2 hp hg e hx hy hxr hyr h1 h2
    · rw [e]; exact yb_U4 hN2 hp hg e hx hy hxr hyr h1 h2
  · rw [e]; exact yb_U5 hN2 hp hg e hx hy hxr hyr
  · rcases e with e | e | e | e
    · rw [e]; exact yb_U6 hN2 hp hg e hx hy hxr hyr
    · rw [e]; exact yb_U7 hN2 hp hg e hx hy hxr hyr
    · rw [e]; exact yb_U8 hN2 hp hg e hx hy hxr hyr
    · rw [e]; exact yb_U9 hN2 hp hg e hx hy hxr hyr
  · rw [e]; exact yb_U10 hN2 hp hg e hx hy hxr hyr
  · rw [e]; exact yb_U11 hN2 hp hg e hx hy hxr hyr
  · rw [e]; exact yb_U12 hN2 hp hg e hx hy hxr hyr
  · rw [e]; exact yb_U13 hN2 hp hg e hx hy hxr hyr
  · rw [e]; exact yb_U14 hN2 hp hg e hx hy hxr hyr
theorem yb_low (hC : CC ≤ 32) (hN : N ≤ CC) (hp : p < N) (hk : cr_ok CC AA p kd (kd p) (oA p) (oB p) (oC p)) {z : Nat → Int} (hz : ∀ q, q < N → (yb q).toInt = -(z q)) (hr : ∀ q, q < N → -1000000 ≤ z q ∧ z q ≤ 1000000) :
    ∃ r : Int32, r.toInt = -(ya_rule 3 (kd p) (oA p) (oB p) (ya_zv N z (oA p)) (ya_zv N z (oB p))) ∧ ∀ post : Int32 → Prop, post r → wpY_lowerRule post (ce, ac, nI N, kd, oA, oB, oC, ln, ip, yb, sa, pc, oc, bv, fl, yv, el, ou) (nI p) := by
  have hN2 : N ≤ 32 := by omega
  have hx := yb_vL hN2 hz (oA p)
  have hy := yb_vL hN2 hz (oB p)
  have hxr := yb_zr hr (oA p)
  have hyr := yb_zr hr (oB p)
  rcases hk with ⟨e, h1, h2⟩ | ⟨e, k, hk, ha⟩ | ⟨e, k, hk, ha⟩ | ⟨e, ⟨q, hq, ha⟩, h1, h2⟩ | ⟨e, ⟨q, hq, ha⟩, q2, hq2, hb⟩ | ⟨e, ⟨q, hq, ha⟩, ⟨q2, hq2, hb⟩, q3, hq3, hd⟩ |
    ⟨e, ⟨q, hq, ha⟩, k, hk, hb⟩ | ⟨e, q, hq, ha, hk⟩ | ⟨e, ⟨q, hq, ha, hk⟩, q2, hq2, hb⟩ | ⟨e, q, hq, ha⟩ | ⟨e, q, hq, ha⟩
  · rw [e]; exact yb_L0 hN2 hp e hx hy hxr hyr
  · rw [e]; exact yb_L1 hN2 hp e hx hy hxr hyr
  · rw [e]; exact yb_L2 hN2 hp e hx hy hxr hyr
  · rcases e with e | e
    · rw [e]; exact yb_L3 hN2 hp e hx hy hxr hyr h1 h2
    · rw [e]; exact yb_L4 hN2 hp e hx hy hxr hyr h1 h2
  · rw [e]; exact yb_L5 hN2 hp e hx hy hxr hyr
  · rcases e with e | e | e | e
    · rw [e]; exact yb_L6 hN2 hp e hx hy hxr hyr
    · rw [e]; exact yb_L7 hN2 hp e hx hy hxr hyr
    · rw [e]; exact yb_L8 hN2 hp e hx hy hxr hyr
    · rw [e]; exact yb_L9 hN2 hp e hx hy hxr hyr
  · rw [e]; exact yb_L10 hN2 hp e hx hy hxr hyr
  · rw [e]; exact yb_L11 hN2 hp e hx hy hxr hyr
  · rw [e]; exact yb_L12 hN2 hp e hx hy hxr hyr
  · rw [e]; exact yb_L13 hN2 hp e hx hy hxr hyr
  · rw [e]; exact yb_L14 hN2 hp e hx hy hxr hyr
end YB
end
section
section YC
/-! the reference: solve -/
variable {ce ac fn : Int32} {kd oA oB oC ln ip yb sa pc oc bv fl yv el ou : Nat → Int32}
variable {N g p CC AA : Nat} {x1 x2 x3 : Int32} {e : Int}
abbrev yc_J : Type := Int32 → Int32 → (Nat → Int32) → (Nat → Int32) → (Nat → Int32) → (Nat → Int32) → (Nat → Int32) → (Nat → Int32) → (Nat → Int32) → (Nat → Int32) → (Nat → Int32) → (Nat → Int32) → (Nat → Int32) → (Nat → Int32) → (Nat → Int32) → (Nat → Int32) → (Nat → Int32) → Prop
def yc_m (x1 x2 x3 : Int32) (g : Nat) (e : Int) : Prop := (x1 = 0 ∧ x3 = -1000000 ∧ g = 3 ∧ e = -1) ∨ (¬ x1 = 0 ∧ x3 = 1000000 ∧ g < 3 ∧ x2 = nI g ∧ e = 1)
def yc_r (N : Nat) (e : Int) (yb : Nat → Int32) (b : Nat → Int) : Prop := ∀ q, q < N → (yb q).toInt = e * ya_zc (b q)
theorem yc_zr {b : Nat → Int} (hr : ya_rng N b) : ∀ q, q < N → -1000000 ≤ ya_zc (b q) ∧ ya_zc (b q) ≤ 1000000 := by
  intro q hq
  unfold ya_zc
  rcases hr q hq with h | h
  · rw [if_pos (by omega)]; omega
  · rw [if_neg (by omega)]; omega
theorem yc_zf {R F : Int} (h : (150 < R ∧ 150 < F) ∨ (R ≤ 150 ∧ F = R)) : (150 < R ∧ ya_zc (bm_cl F) = 1000000) ∨ (R ≤ 150 ∧ ya_zc (bm_cl F) = R) := by
  unfold ya_zc bm_cl
  rcases h with h | h
  · left
    rw [if_pos h.2]
    exact ⟨h.1, rfl⟩
  · right
    rw [if_neg (by omega), if_neg (by omega)]
    exact ⟨h.1, h.2⟩
theorem yc_pos (hC : CC ≤ 32) (hN : N ≤ CC) (hp : p < N) (hk : cr_ok CC AA p kd (kd p) (oA p) (oB p) (oC p)) (hm : yc_m x1 x2 x3 g e) {b : Nat → Int} (hb : yc_r N e yb b)
    (h0 : b 32 = 0) (h1 : b 33 = 100000) (hr : ya_rng N b) :
    ∃ v : Int32, v.toInt = e * ya_zc (bm_cl (cr_Fr (kd p) (cr_row g N (kd p) (oA p) (oB p)) b)) ∧ ∀ (post : SY → Prop) (J43 J62 : yc_J) (x4 x5 : Int32),
      wY_solve_119 post J43 J62 x1 x2 x3 x4 x5 (nI p) v ce ac (nI N) kd oA oB oC ln ip yb sa pc oc bv fl yv el ou →
      ((x1 = 0 → wpY_lowerRule (fun r_8 => wY_solve_91 post J43 J62 x1 x2 x3 x4 x5 (nI p) r_8 ce ac (nI N) kd oA oB oC ln ip yb sa pc oc bv fl yv el ou) (ce, ac, nI N, kd, oA, oB, oC, ln, ip, yb, sa, pc, oc, bv, fl, yv, el, ou) (nI p)) ∧
       (¬ x1 = 0 → wpY_upperRule (fun r_38 => wY_solve_91 post J43 J62 x1 x2 x3 x4 x5 (nI p) r_38 ce ac (nI N) kd oA oB oC ln ip yb sa pc oc bv fl yv el ou) (ce, ac, nI N, kd, oA, oB, oC, ln, ip, yb, sa, pc, oc, bv, fl, yv, el, ou) (nI p) x2)) := by
  have hF := yc_zf (ya_F (g := g) hC hN hp hk h0 h1 hr)
  have hz := yc_zr hr
  rcases hm with ⟨m1, m2, m3, m4⟩ | ⟨m1, m2, m3, m4, m5⟩
  · subst m3 m4
    obtain ⟨r, hrt, hw⟩ := yb_low (ce := ce) (ac := ac) (kd := kd) (oA := oA) (oB := oB) (oC := oC) (ln := ln) (ip := ip) (yb := yb) (sa := sa) (pc := pc) (oc := oc) (bv := bv) (fl := fl) (yv := yv) (el := el) (ou := ou) hC hN hp hk (z := fun q => ya_zc (b q)) (fun q hq => by have := hb q hq; (try dsimp only); omega) hz
    rcases hF with ⟨f1, f2⟩ | ⟨f1, f2⟩
    · refine ⟨x3, by rw [f2, m2]; decide, fun post J43 J62 x4 x5 h => br_t m1 (hw _ ?_)⟩
      unfold wY_solve_91 wY_solve_116
      exact br_t m1 (br_f (by rw [qn_le, hrt, qn_m150]; omega) h)
    · refine ⟨r, by rw [hrt, f2]; omega, fun post J43 J62 x4 x5 h => br_t m1 (hw _ ?_)⟩
      unfold wY_solve_91
      exact br_t m1 (br_t (by rw [qn_le, hrt, qn_m150]; omega) h)
  · subst m4 m5
    obtain ⟨r, hrt, hw⟩ := yb_up (ce := ce) (ac := ac) (kd := kd) (oA := oA) (oB := oB) (oC := oC) (ln := ln) (ip := ip) (yb := yb) (sa := sa) (pc := pc) (oc := oc) (bv := bv) (fl := fl) (yv := yv) (el := el) (ou := ou) hC hN hp m3 hk (z := fun q => ya_zc (b q)) (fun q hq => by have := hb q hq; (try dsimp only); omega) hz
    rcases hF with ⟨f1, f2⟩ | ⟨f1, f2⟩
    · refine ⟨x3, by rw [f2, m2]; decide, fun post J43 J62 x4 x5 h => br_f m1 (hw _ ?_)⟩
      unfold wY_solve_91 wY_solve_116
      exact br_f m1 (br_f (by rw [qn_le, hrt, qn_150]; omega) h)
    · refine ⟨r, by rw [hrt, f2]; omega, fun post J43 J62 x4 x5 h => br_f m1 (hw _ ?_)⟩
      unfold wY_solve_91
      exact br_f m1 (br_t (by rw [qn_le, hrt, qn_150]; omega) h)
theorem yc_zinj {x y : Int} (hx : x = 100000 ∨ x ≤ 150) (hy : y = 100000 ∨ y ≤ 150) (h : ya_zc x = ya_zc y) : x = y := by
  unfold ya_zc at h
  by_cases c1 : 150 < x
  · rw [if_pos c1] at h
    by_cases c2 : 150 < y
    · omega
    · rw [if_neg c2] at h; omega
  · rw [if_neg c1] at h
    by_cases c2 : 150 < y
    · rw [if_pos c2] at h; omega
    · rw [if_neg c2] at h; omega
theorem yc_e (hm : yc_m x1 x2 x3 g e) : e = 1 ∨ e = -1 := by
  rcases hm with h | h
  · exact Or.inr h.2.2.2
  · exact Or.inl h.2.2.2.2
theorem yc_passL (hC : CC ≤ 32) (hN : N ≤ CC) (hk : cr_code CC AA N kd oA oB oC) (hm : yc_m x1 x2 x3 g e) {r : Nat → Int} (hL : cr_L g N kd oA oB r) (b0 : Nat → Int) (j : Nat) :
    ∀ (d p : Nat) (yb : Nat → Int32) (b : Nat → Int) (x4 : Int32), p + d = N → yc_r N e yb b →
      bm_YI N (cr_ph kd) (cr_f g N kd oA oB) (cr_s g N kd oA oB) (cr_w1 g N kd oA oB) (cr_w2 g N kd oA oB) r p b →
      ((x4 = 0 ∧ b = b0 ∧ ∀ u, u < p → b u = bm_cl (bm_F (cr_ph kd) (cr_f g N kd oA oB) (cr_s g N kd oA oB) (cr_w1 g N kd oA oB) (cr_w2 g N kd oA oB) b u)) ∨ (x4 = 1 ∧ bm_psi N b0 < bm_psi N b)) →
      ∃ (yb' : Nat → Int32) (b' : Nat → Int) (x4' : Int32), yc_r N e yb' b' ∧
        bm_YI N (cr_ph kd) (cr_f g N kd oA oB) (cr_s g N kd oA oB) (cr_w1 g N kd oA oB) (cr_w2 g N kd oA oB) r N b' ∧
        ((x4' = 0 ∧ ∀ u, u < N → b' u = bm_cl (bm_F (cr_ph kd) (cr_f g N kd oA oB) (cr_s g N kd oA oB) (cr_w1 g N kd oA oB) (cr_w2 g N kd oA oB) b' u)) ∨ (x4' = 1 ∧ bm_psi N b0 < bm_psi N b')) ∧
        ∀ (post : SY → Prop) (J43 : yc_J), J43 x4' (nI (j + 1)) kd oA oB oC ln ip yb' sa pc oc bv fl yv el ou → wY_solve_62 post J43 x1 x2 x3 (nI j) ce ac (nI N) (d + 1) x4 (nI p) kd oA oB oC ln ip yb sa pc oc bv fl yv el ou := by
  have hG := cr_G (g := g) hC hN hk
  intro d
  induction d with
  | zero =>
    intro p yb b x4 hpd hb hI hx
    have ep : p = N := by omega
    subst ep
    refine ⟨yb, b, x4, hb, hI, ?_, fun post J43 h => br_t (nI_le (Nat.le_refl p) (by omega)) (nm_r (nI_1 j) h)⟩
    rcases hx with ⟨h1, h2, h3⟩ | h
    · exact Or.inl ⟨h1, h3⟩
    · exact Or.inr h
  | succ d ih =>
    intro p yb b x4 hpd hb hI hx
    have hp : p < N := by omega
    have i1 : vp_in (nI p) 32 := vp_in_nI (by omega) (by omega)
    have cl : (nI p).toNatClampNeg = p := nI_clamp (by omega)
    have hnot : ¬ nI N ≤ nI p := nI_ge (by omega) (by omega)
    obtain ⟨v, hv, hw⟩ := yc_pos (ce := ce) (ac := ac) (kd := kd) (oA := oA) (oB := oB) (oC := oC) (ln := ln) (ip := ip) (yb := yb) (sa := sa) (pc := pc) (oc := oc) (bv := bv) (fl := fl) (yv := yv) (el := el) (ou := ou) hC hN hp (hk p hp) hm hb hI.1 hI.2.1 hI.2.2.1
    rw [← cr_Fr_eq] at hv
    have hst := bm_YI_step (by omega) hG hL hp hI
    have hbp := hb p hp
    have hor := bm_cl_or (bm_F (cr_ph kd) (cr_f g N kd oA oB) (cr_s g N kd oA oB) (cr_w1 g N kd oA oB) (cr_w2 g N kd oA oB) b p)
    generalize hFv : bm_cl (bm_F (cr_ph kd) (cr_f g N kd oA oB) (cr_s g N kd oA oB) (cr_w1 g N kd oA oB) (cr_w2 g N kd oA oB) b p) = F at hv hst hor
    have hrp := hI.2.2.1 p hp
    have hb2 : yc_r N e (upd yb p v) (bm_up b p F) := by
      intro q hq
      by_cases eq : q = p
      · subst eq; rw [pk_us, bm_up_s]; exact hv
      · rw [pk_un eq, bm_up_n eq]; exact hb q hq
    by_cases hc : v = yb p
    · have hFb : F = b p := by
        refine yc_zinj hor (by omega) ?_
        have h2 : v.toInt = (yb p).toInt := by rw [hc]
        rw [hv, hbp] at h2
        rcases yc_e hm with h3 | h3 <;> rw [h3] at h2 <;> omega
      have hup : bm_up b p F = b := by
        funext q
        by_cases eq : q = p
        · subst eq; rw [bm_up_s]; exact hFb
        · exact bm_up_n eq
      rw [hup] at hb2
      obtain ⟨yb', b', x4', h1, h2, h3, h4⟩ := ih (p + 1) (upd yb p v) b x4 (by omega) hb2 (by rw [hup] at hst; exact hst.1) (by
        rcases hx with ⟨k1, k2, k3⟩ | k
        · refine Or.inl ⟨k1, k2, fun u hu => ?_⟩
          by_cases eq : u = p
          · subst eq; rw [hFv]; exact hFb.symm
          · exact k3 u (by omega)
        · exact Or.inr k)
      refine ⟨yb', b', x4', h1, h2, h3, fun post J43 h => br_f hnot (hw _ _ _ _ _ ?_)⟩
      unfold wY_solve_119
      rw [cl]
      exact ⟨i1, br_t hc ⟨i1, nm_e (nm_r (nI_1 p) (h4 post J43 h))⟩⟩
    · have hne : F ≠ b p := by
        intro hFb
        apply hc
        rw [qn_eq, hv, hbp, hFb]
      have hpsi := bm_psi_up (by omega) hp hrp hst.2.1 hst.2.2.1 hst.2.2.2 hne
      obtain ⟨yb', b', x4', h1, h2, h3, h4⟩ := ih (p + 1) (upd yb p v) (bm_up b p F) 1 (by omega) hb2 hst.1 (by
        right
        refine ⟨rfl, ?_⟩
        rcases hx with ⟨k1, k2, k3⟩ | k
        · rw [← k2]; exact hpsi
        · omega)
      refine ⟨yb', b', x4', h1, h2, h3, fun post J43 h => br_f hnot (hw _ _ _ _ _ ?_)⟩
      unfold wY_solve_119
      rw [cl]
      exact ⟨i1, br_f hc ⟨i1, nm_e (nm_r (nI_1 p) (h4 post J43 h))⟩⟩
theorem yc_outL (hC : CC ≤ 32) (hN : N ≤ CC) (hk : cr_code CC AA N kd oA oB oC) (hm : yc_m x1 x2 x3 g e) {r : Nat → Int} (hL : cr_L g N kd oA oB r) :
    ∀ (d j : Nat) (yb : Nat → Int32) (b : Nat → Int), j + d = 10000 → yc_r N e yb b →
      bm_YI N (cr_ph kd) (cr_f g N kd oA oB) (cr_s g N kd oA oB) (cr_w1 g N kd oA oB) (cr_w2 g N kd oA oB) r 0 b → j ≤ bm_psi N b →
      ∃ yb' : Nat → Int32, yc_r N e yb' r ∧ ∀ post : SY → Prop, post (ce, ac, nI N, kd, oA, oB, oC, ln, ip, yb', sa, pc, oc, bv, fl, yv, el, ou) → wY_solve_43 post x1 x2 x3 ce ac (nI N) (d + 1) 1 (nI j) kd oA oB oC ln ip yb sa pc oc bv fl yv el ou := by
  intro d
  induction d with
  | zero =>
    intro j yb b hj hb hI hpsi
    have := bm_psi_le (n := N) (by omega) b
    omega
  | succ d ih =>
    intro j yb b hj hb hI hpsi
    have hle := bm_psi_le (n := N) (by omega) b
    obtain ⟨yb1, b1, x4, h1, h2, h3, h4⟩ := yc_passL (ce := ce) (ac := ac) (kd := kd) (oA := oA) (oB := oB) (oC := oC) (ln := ln) (ip := ip) (sa := sa) (pc := pc) (oc := oc) (bv := bv) (fl := fl) (yv := yv) (el := el) (ou := ou) hC hN hk hm hL b j N 0 yb b 0 (by omega) hb hI (Or.inl ⟨rfl, rfl, fun u hu => by omega⟩)
    have hnot : ¬ (10000 : Int32) ≤ nI j := nI_ge (b := 10000) (by omega) (by omega)
    rcases h3 with ⟨rfl, h3⟩ | ⟨rfl, h3⟩
    · refine ⟨yb1, fun q hq => ?_, fun post h => br_f hnot (br_f (by decide) ⟨N + 1, h4 _ _ ?_⟩)⟩
      · rw [h1 q hq, bm_YI_end hL h2 h3 q hq]
      · obtain ⟨d2, rfl⟩ : ∃ d2, d = d2 + 1 := ⟨d - 1, by omega⟩
        exact br_f (nI_ge (b := 10000) (by omega) (by omega)) (br_t rfl h)
    · obtain ⟨yb', h5, h6⟩ := ih (j + 1) yb1 b1 (by omega) h1 (bm_YI_0 r b1 h2) (by omega)
      exact ⟨yb', h5, fun post h => br_f hnot (br_f (by decide) ⟨N + 1, h4 _ _ (h6 post h)⟩)⟩
theorem yc_iniL : ∀ (d p : Nat) (yb : Nat → Int32), p + d = 32 → (∀ q, q < p → yb q = -x3) →
      ∃ yb' : Nat → Int32, (∀ q, q < 32 → yb' q = -x3) ∧ ∀ post : SY → Prop, (∃ n43 : Nat, wY_solve_43 post x1 x2 x3 ce ac fn n43 1 0 kd oA oB oC ln ip yb' sa pc oc bv fl yv el ou) → wY_solve_18 post x1 x2 x3 1 ce ac fn (d + 1) (nI p) kd oA oB oC ln ip yb sa pc oc bv fl yv el ou := by
  intro d
  induction d with
  | zero =>
    intro p yb hpd h
    have e : p = 32 := by omega
    subst e
    exact ⟨yb, h, fun post hp => br_t (nI_le (a := 32) (b := 32) (by omega) (by omega)) hp⟩
  | succ d ih =>
    intro p yb hpd h
    have i1 : vp_in (nI p) 32 := vp_in_nI (by omega) (by omega)
    have cl : (nI p).toNatClampNeg = p := nI_clamp (by omega)
    obtain ⟨yb', h1, h2⟩ := ih (p + 1) (upd yb p (-x3)) (by omega) (fun q hq => by
      by_cases e : q = p
      · subst e; exact pk_us
      · rw [pk_un e]; exact h q (by omega))
    refine ⟨yb', h1, fun post hp => br_f (nI_ge (b := 32) (by omega) (by omega)) ?_⟩
    rw [cl]
    exact ⟨i1, nm_e (nm_r (nI_1 p) (h2 post hp))⟩
def yc_b0 : Nat → Int := fun q => if q = 32 then 0 else if q = 33 then 100000 else -1000000
theorem yc_18 (hC : CC ≤ 32) (hN : N ≤ CC) (hk : cr_code CC AA N kd oA oB oC) (hm : yc_m x1 x2 x3 g e) {r : Nat → Int} (hL : cr_L g N kd oA oB r) :
    ∃ yb' : Nat → Int32, yc_r N e yb' r ∧ ∀ post : SY → Prop, post (ce, ac, nI N, kd, oA, oB, oC, ln, ip, yb', sa, pc, oc, bv, fl, yv, el, ou) → ∃ n18 : Nat, wY_solve_18 post x1 x2 x3 1 ce ac (nI N) n18 0 kd oA oB oC ln ip yb sa pc oc bv fl yv el ou := by
  obtain ⟨yb1, h1, h2⟩ := yc_iniL (ce := ce) (ac := ac) (fn := nI N) (kd := kd) (oA := oA) (oB := oB) (oC := oC) (ln := ln) (ip := ip) (sa := sa) (pc := pc) (oc := oc) (bv := bv) (fl := fl) (yv := yv) (el := el) (ou := ou) (x1 := x1) (x2 := x2) (x3 := x3) 32 0 yb (by omega) (fun q hq => by omega)
  have hb0 : ∀ u, u < N → yc_b0 u = -1000000 := fun u hu => by
    unfold yc_b0
    rw [if_neg (by omega), if_neg (by omega)]
  have hb : yc_r N e yb1 yc_b0 := by
    intro q hq
    rw [h1 q (by omega), hb0 q hq]
    rcases hm with ⟨m1, m2, m3, m4⟩ | ⟨m1, m2, m3, m4, m5⟩
    · rw [m2, m4]; decide
    · rw [m2, m5]; decide
  obtain ⟨yb', h3, h4⟩ := yc_outL (ce := ce) (ac := ac) (kd := kd) (oA := oA) (oB := oB) (oC := oC) (ln := ln) (ip := ip) (sa := sa) (pc := pc) (oc := oc) (bv := bv) (fl := fl) (yv := yv) (el := el) (ou := ou) hC hN hk hm hL 10000 0 yb1 yc_b0 (by omega) hb (bm_YI_start hL rfl rfl hb0) (Nat.zero_le _)
  exact ⟨yb', h3, fun post h => ⟨33, h2 post ⟨10001, h4 post h⟩⟩⟩
/-- the least solution, as the reference finds it: upper bounds of array g .. -/
theorem yc_up (hC : CC ≤ 32) (hN : N ≤ CC) (hk : cr_code CC AA N kd oA oB oC) (hg : g < 3) {r : Nat → Int} (hL : cr_L g N kd oA oB r) :
    ∃ yb' : Nat → Int32, (∀ q, q < N → (yb' q).toInt = ya_zc (r q)) ∧ ∀ post : SY → Prop, post (ce, ac, nI N, kd, oA, oB, oC, ln, ip, yb', sa, pc, oc, bv, fl, yv, el, ou) → wpY_solve post (ce, ac, nI N, kd, oA, oB, oC, ln, ip, yb, sa, pc, oc, bv, fl, yv, el, ou) 1 (nI g) := by
  obtain ⟨yb', h1, h2⟩ := yc_18 (ce := ce) (ac := ac) (kd := kd) (oA := oA) (oB := oB) (oC := oC) (ln := ln) (ip := ip) (yb := yb) (sa := sa) (pc := pc) (oc := oc) (bv := bv) (fl := fl) (yv := yv) (el := el) (ou := ou) (x1 := 1) (x2 := nI g) (x3 := 1000000) (e := 1) hC hN hk (Or.inr ⟨by decide, rfl, hg, rfl, rfl⟩) hL
  exact ⟨yb', fun q hq => by have := h1 q hq; omega, fun post h => br_f (by decide) (h2 post h)⟩
/-- .. and lower bounds -/
theorem yc_low (hC : CC ≤ 32) (hN : N ≤ CC) (hk : cr_code CC AA N kd oA oB oC) {r : Nat → Int} (hL : cr_L 3 N kd oA oB r) :
    ∃ yb' : Nat → Int32, (∀ q, q < N → (yb' q).toInt = -(ya_zc (r q))) ∧ ∀ post : SY → Prop, post (ce, ac, nI N, kd, oA, oB, oC, ln, ip, yb', sa, pc, oc, bv, fl, yv, el, ou) → wpY_solve post (ce, ac, nI N, kd, oA, oB, oC, ln, ip, yb, sa, pc, oc, bv, fl, yv, el, ou) 0 0 := by
  obtain ⟨yb', h1, h2⟩ := yc_18 (ce := ce) (ac := ac) (kd := kd) (oA := oA) (oB := oB) (oC := oC) (ln := ln) (ip := ip) (yb := yb) (sa := sa) (pc := pc) (oc := oc) (bv := bv) (fl := fl) (yv := yv) (el := el) (ou := ou) (x1 := 0) (x2 := 0) (x3 := -1000000) (e := -1) hC hN hk (Or.inl ⟨rfl, rfl, rfl, rfl⟩) hL
  exact ⟨yb', fun q hq => by have := h1 q hq; omega, fun post h => br_t rfl (h2 post h)⟩
end YC
end
section
section ZR
/-! resets of both sides -/
def zr_z (k : Nat) (v : Int32) (a : Nat → Int32) : Nat → Int32 := fun j => if j < k then v else a j
theorem zr_0 (v : Int32) (a : Nat → Int32) : zr_z 0 v a = a := by
  funext j
  exact if_neg (by omega)
theorem zr_s (k : Nat) (v : Int32) (a : Nat → Int32) : upd (zr_z k v a) k v = zr_z (k + 1) v a := by
  funext j
  unfold upd zr_z
  by_cases e : j = k
  · rw [if_pos e, if_pos (by omega)]
  · rw [if_neg e]
    by_cases h : j < k
    · rw [if_pos h, if_pos (by omega)]
    · rw [if_neg h, if_neg (by omega)]
theorem zr_in {k j : Nat} {v : Int32} {a : Nat → Int32} (h : j < k) : zr_z k v a j = v := if_pos h
theorem zr_zero (k : Nat) : zr_z k 0 (fun _ => 0) = fun _ => 0 := by
  funext j
  unfold zr_z
  split <;> rfl
variable {lg og tp vt iv ce ac fn : Int32} {kd oA oB oC ln ip sa pc fl bh vl el ou oc bv so bd fi fw se sw ts : Nat → Int32}
theorem zr_x71 {post : SX → Prop} (h : post (lg, og, tp, vt, iv, ce, ac, fn, kd, oA, oB, oC, ln, ip, sa, pc, fl, bh, vl, zr_z 96 0 el, ou, oc, bv, so, bd, fi, fw, se, sw, ts)) : ∀ d i : Nat, i + d = 96 → wX_resetMachines_71 post lg og tp vt iv ce ac fn (d + 1) (nI i) kd oA oB oC ln ip sa pc fl bh vl (zr_z i 0 el) ou oc bv so bd fi fw se sw ts := by
  intro d
  induction d with
  | zero =>
    intro i hi
    have e : i = 96 := by omega
    subst e
    exact br_t (nI_le (a := 96) (b := 96) (by omega) (by omega)) h
  | succ d ih =>
    intro i hi
    have h1 := ih (i + 1) (by omega)
    rw [← zr_s] at h1
    exact br_f (nI_ge (b := 96) (by omega) (by omega)) ⟨vp_in_nI (by omega) (by omega), nm_r (by rw [nI_clamp (by omega)]) (nm_r (nI_1 i) h1)⟩
theorem zr_x50 {post : SX → Prop} (h : post (lg, og, tp, vt, iv, ce, ac, fn, kd, oA, oB, oC, ln, ip, sa, pc, fl, zr_z 64 0 bh, vl, zr_z 96 0 el, ou, oc, bv, so, bd, fi, fw, se, sw, ts)) : ∀ d i : Nat, i + d = 64 → wX_resetMachines_50 post lg og tp vt iv ce ac fn (d + 1) (nI i) kd oA oB oC ln ip sa pc fl (zr_z i 0 bh) vl el ou oc bv so bd fi fw se sw ts := by
  intro d
  induction d with
  | zero =>
    intro i hi
    have e : i = 64 := by omega
    subst e
    have h1 := zr_x71 h 96 0 (by omega)
    rw [zr_0] at h1
    exact br_t (nI_le (a := 64) (b := 64) (by omega) (by omega)) ⟨97, h1⟩
  | succ d ih =>
    intro i hi
    have h1 := ih (i + 1) (by omega)
    rw [← zr_s] at h1
    exact br_f (nI_ge (b := 64) (by omega) (by omega)) ⟨vp_in_nI (by omega) (by omega), nm_r (by rw [nI_clamp (by omega), qn_vb0]) (nm_r (nI_1 i) h1)⟩
theorem zr_x2 {post : SX → Prop} (h : post (lg, og, tp, vt, iv, ce, ac, fn, kd, oA, oB, oC, ln, ip, zr_z 2 0 sa, zr_z 2 0 pc, zr_z 2 0 fl, zr_z 64 0 bh, vl, zr_z 96 0 el, ou, zr_z 2 0 oc, zr_z 2 0 bv, so, bd, fi, fw, se, sw, ts)) :
    ∀ d i : Nat, i + d = 2 → wX_resetMachines_2 post lg og tp vt iv ce ac fn (d + 1) (nI i) kd oA oB oC ln ip (zr_z i 0 sa) (zr_z i 0 pc) (zr_z i 0 fl) bh vl el ou (zr_z i 0 oc) (zr_z i 0 bv) so bd fi fw se sw ts := by
  intro d
  induction d with
  | zero =>
    intro i hi
    have e : i = 2 := by omega
    subst e
    have h1 := zr_x50 h 64 0 (by omega)
    rw [zr_0] at h1
    exact br_t (nI_le (a := 2) (b := 2) (by omega) (by omega)) ⟨65, h1⟩
  | succ d ih =>
    intro i hi
    have h1 := ih (i + 1) (by omega)
    rw [← zr_s, ← zr_s, ← zr_s, ← zr_s, ← zr_s] at h1
    have v : vp_in (nI i) 2 := vp_in_nI (by omega) (by omega)
    refine br_f (nI_ge (b := 2) (by omega) (by omega)) ?_
    rw [nI_clamp (by omega), qn_vb0]
    exact ⟨v, nm_e ⟨v, nm_e ⟨v, nm_e ⟨v, nm_e ⟨v, nm_e (nm_r (nI_1 i) h1)⟩⟩⟩⟩⟩
theorem zr_x {post : SX → Prop} (h : post (lg, og, tp, vt, iv, ce, ac, fn, kd, oA, oB, oC, ln, ip, zr_z 2 0 sa, zr_z 2 0 pc, zr_z 2 0 fl, zr_z 64 0 bh, vl, zr_z 96 0 el, ou, zr_z 2 0 oc, zr_z 2 0 bv, so, bd, fi, fw, se, sw, ts)) : wpX_resetMachines post (lg, og, tp, vt, iv, ce, ac, fn, kd, oA, oB, oC, ln, ip, sa, pc, fl, bh, vl, el, ou, oc, bv, so, bd, fi, fw, se, sw, ts) := by
  have h1 := zr_x2 h 2 0 (by omega)
  rw [zr_0, zr_0, zr_0, zr_0, zr_0] at h1
  exact ⟨3, h1⟩
theorem zr_cc2 {post : SX → Prop} (h : post (lg, og, tp, vt, iv, ce, ac, fn, kd, oA, oB, oC, ln, ip, zr_z 2 0 sa, zr_z 2 0 pc, zr_z 2 0 fl, zr_z 64 0 bh, vl, zr_z 96 0 el, ou, zr_z 2 0 oc, zr_z 2 0 bv, zr_z 4 0 so, bd, fi, fw, se, sw, ts)) :
    ∀ d i : Nat, i + d = 4 → wX_codeChanged_2 post lg og tp vt iv ce ac fn (d + 1) (nI i) kd oA oB oC ln ip sa pc fl bh vl el ou oc bv (zr_z i 0 so) bd fi fw se sw ts := by
  intro d
  induction d with
  | zero =>
    intro i hi
    have e : i = 4 := by omega
    subst e
    exact br_t (nI_le (a := 4) (b := 4) (by omega) (by omega)) (zr_x h)
  | succ d ih =>
    intro i hi
    have h1 := ih (i + 1) (by omega)
    rw [← zr_s] at h1
    exact br_f (nI_ge (b := 4) (by omega) (by omega)) ⟨vp_in_nI (by omega) (by omega), nm_r (by rw [nI_clamp (by omega), qn_vb0]) (nm_r (nI_1 i) h1)⟩
theorem zr_cc {post : SX → Prop} (h : post (lg, og, tp, vt, iv, ce, ac, fn, kd, oA, oB, oC, ln, ip, zr_z 2 0 sa, zr_z 2 0 pc, zr_z 2 0 fl, zr_z 64 0 bh, vl, zr_z 96 0 el, ou, zr_z 2 0 oc, zr_z 2 0 bv, zr_z 4 0 so, bd, fi, fw, se, sw, ts)) : wpX_codeChanged post (lg, og, tp, vt, iv, ce, ac, fn, kd, oA, oB, oC, ln, ip, sa, pc, fl, bh, vl, el, ou, oc, bv, so, bd, fi, fw, se, sw, ts) := by
  have h1 := zr_cc2 h 4 0 (by omega)
  rw [zr_0] at h1
  exact ⟨5, h1⟩
theorem zr_xi {post : SX → Prop} (h : post (lg, og, tp, vt, iv, ce, ac, fn, kd, oA, oB, oC, zr_z 3 4 ln, ip, sa, pc, fl, bh, vl, el, ou, oc, bv, so, bd, fi, fw, se, sw, ts)) : ∀ d i : Nat, i + d = 3 → wX_init_228 post lg og tp vt iv ce ac fn (d + 1) (nI i) kd oA oB oC (zr_z i 4 ln) ip sa pc fl bh vl el ou oc bv so bd fi fw se sw ts := by
  intro d
  induction d with
  | zero =>
    intro i hi
    have e : i = 3 := by omega
    subst e
    exact br_t (nI_le (a := 3) (b := 3) (by omega) (by omega)) h
  | succ d ih =>
    intro i hi
    have h1 := ih (i + 1) (by omega)
    rw [← zr_s] at h1
    exact br_f (nI_ge (b := 3) (by omega) (by omega)) ⟨vp_in_nI (by omega) (by omega), nm_r (by rw [nI_clamp (by omega)]) (nm_r (nI_1 i) h1)⟩
end ZR
section ZY
variable {ce ac fn : Int32} {kd oA oB oC ln ip yb sa pc oc bv fl yv el ou : Nat → Int32}
theorem zr_y73 {post : SY → Prop} (h : post (ce, ac, fn, kd, oA, oB, oC, ln, ip, yb, sa, pc, oc, bv, fl, yv, zr_z 96 0 el, ou)) : ∀ d i : Nat, i + d = 96 → wY_reset_73 post ce ac fn (d + 1) (nI i) kd oA oB oC ln ip yb sa pc oc bv fl yv (zr_z i 0 el) ou := by
  intro d
  induction d with
  | zero =>
    intro i hi
    have e : i = 96 := by omega
    subst e
    exact br_t (nI_le (a := 96) (b := 96) (by omega) (by omega)) h
  | succ d ih =>
    intro i hi
    have h1 := ih (i + 1) (by omega)
    rw [← zr_s] at h1
    exact br_f (nI_ge (b := 96) (by omega) (by omega)) ⟨vp_in_nI (by omega) (by omega), nm_r (by rw [nI_clamp (by omega)]) (nm_r (nI_1 i) h1)⟩
theorem zr_y50 {post : SY → Prop} (h : post (ce, ac, fn, kd, oA, oB, oC, ln, ip, yb, sa, pc, oc, bv, fl, zr_z 64 (-1000) yv, zr_z 96 0 el, ou)) : ∀ d i : Nat, i + d = 64 → wY_reset_50 post ce ac fn (d + 1) (nI i) kd oA oB oC ln ip yb sa pc oc bv fl (zr_z i (-1000) yv) el ou := by
  intro d
  induction d with
  | zero =>
    intro i hi
    have e : i = 64 := by omega
    subst e
    have h1 := zr_y73 h 96 0 (by omega)
    rw [zr_0] at h1
    exact br_t (nI_le (a := 64) (b := 64) (by omega) (by omega)) ⟨97, h1⟩
  | succ d ih =>
    intro i hi
    have h1 := ih (i + 1) (by omega)
    rw [← zr_s] at h1
    exact br_f (nI_ge (b := 64) (by omega) (by omega)) ⟨vp_in_nI (by omega) (by omega), nm_r (by rw [nI_clamp (by omega)]) (nm_r (nI_1 i) h1)⟩
theorem zr_y2 {post : SY → Prop} (h : post (ce, ac, fn, kd, oA, oB, oC, ln, ip, yb, zr_z 2 0 sa, zr_z 2 0 pc, zr_z 2 0 oc, zr_z 2 0 bv, zr_z 2 0 fl, zr_z 64 (-1000) yv, zr_z 96 0 el, ou)) :
    ∀ d i : Nat, i + d = 2 → wY_reset_2 post ce ac fn (d + 1) (nI i) kd oA oB oC ln ip yb (zr_z i 0 sa) (zr_z i 0 pc) (zr_z i 0 oc) (zr_z i 0 bv) (zr_z i 0 fl) yv el ou := by
  intro d
  induction d with
  | zero =>
    intro i hi
    have e : i = 2 := by omega
    subst e
    have h1 := zr_y50 h 64 0 (by omega)
    rw [zr_0] at h1
    exact br_t (nI_le (a := 2) (b := 2) (by omega) (by omega)) ⟨65, h1⟩
  | succ d ih =>
    intro i hi
    have h1 := ih (i + 1) (by omega)
    rw [← zr_s, ← zr_s, ← zr_s, ← zr_s, ← zr_s] at h1
    have v : vp_in (nI i) 2 := vp_in_nI (by omega) (by omega)
    refine br_f (nI_ge (b := 2) (by omega) (by omega)) ?_
    rw [nI_clamp (by omega), qn_vb0]
    exact ⟨v, nm_e ⟨v, nm_e ⟨v, nm_e ⟨v, nm_e ⟨v, nm_e (nm_r (nI_1 i) h1)⟩⟩⟩⟩⟩
theorem zr_y {post : SY → Prop} (h : post (ce, ac, fn, kd, oA, oB, oC, ln, ip, yb, zr_z 2 0 sa, zr_z 2 0 pc, zr_z 2 0 oc, zr_z 2 0 bv, zr_z 2 0 fl, zr_z 64 (-1000) yv, zr_z 96 0 el, ou)) : wpY_reset post (ce, ac, fn, kd, oA, oB, oC, ln, ip, yb, sa, pc, oc, bv, fl, yv, el, ou) := by
  have h1 := zr_y2 h 2 0 (by omega)
  rw [zr_0, zr_0, zr_0, zr_0, zr_0] at h1
  exact ⟨3, h1⟩
theorem zr_yi {post : SY → Prop} (h : post (ce, ac, fn, kd, oA, oB, oC, zr_z 3 4 ln, ip, yb, zr_z 2 0 sa, zr_z 2 0 pc, zr_z 2 0 oc, zr_z 2 0 bv, zr_z 2 0 fl, zr_z 64 (-1000) yv, zr_z 96 0 el, ou)) :
    ∀ d i : Nat, i + d = 3 → wY_init_169 post ce ac fn (d + 1) (nI i) kd oA oB oC (zr_z i 4 ln) ip yb sa pc oc bv fl yv el ou := by
  intro d
  induction d with
  | zero =>
    intro i hi
    have e : i = 3 := by omega
    subst e
    exact br_t (nI_le (a := 3) (b := 3) (by omega) (by omega)) (zr_y h)
  | succ d ih =>
    intro i hi
    have h1 := ih (i + 1) (by omega)
    rw [← zr_s] at h1
    exact br_f (nI_ge (b := 3) (by omega) (by omega)) ⟨vp_in_nI (by omega) (by omega), nm_r (by rw [nI_clamp (by omega)]) (nm_r (nI_1 i) h1)⟩
end ZY
end
section
section ZZ
/-! the relation -/
def zz_v (N p : Nat) (h x y : Int32) : Prop := (h = 0 ∧ y = -1000) ∨ (h = 1 ∧ p < N ∧ y = x ∧ -128 ≤ x.toInt ∧ x.toInt ≤ 127)
def zz_C (CC AA N : Nat) (kd oA oB oC : Nat → Int32) : Prop := 8 ≤ CC ∧ CC ≤ 32 ∧ 1 ≤ AA ∧ AA ≤ 3 ∧ N ≤ CC ∧ cr_code CC AA N kd oA oB oC
def zz_S (ln ip : Nat → Int32) : Prop := (∀ k, k < 3 → 0 ≤ (ln k).toInt ∧ (ln k).toInt ≤ 16) ∧ (∀ k, k < 4 → -128 ≤ (ip k).toInt ∧ (ip k).toInt ≤ 127)
def zz_M (pc fl oc el : Nat → Int32) : Prop :=
  (∀ m, m < 2 → (∃ q, q ≤ 32 ∧ pc m = nI q) ∧ (fl m = 0 ∨ fl m = 1) ∧ (∃ q, q ≤ 16 ∧ oc m = nI q)) ∧ ∀ i, i < 96 → -128 ≤ (el i).toInt ∧ (el i).toInt ≤ 127
def zz_V (N : Nat) (bh vl yv : Nat → Int32) : Prop := ∀ m p, m < 2 → p < 32 → zz_v N p (bh (32 * m + p)) (vl (32 * m + p)) (yv (32 * m + p))
def zz_R (CC AA N : Nat) (kd oA oB oC ln ip pc fl bh vl el oc so bd yv : Nat → Int32) : Prop :=
  zz_C CC AA N kd oA oB oC ∧ zz_S ln ip ∧ zz_M pc fl oc el ∧ zz_V N bh vl yv ∧ xe_ok N kd oA oB so bd
/-- the two objects hold the same code, settings and machines; the component's solved graphs hold the least solutions -/
def i_Rel (_ : Nat) (u : SX) (v : SY) : Prop :=
  ∃ lg og tp vt iv : Int32, ∃ CC AA N : Nat, ∃ kd oA oB oC ln ip sa pc fl bh vl el ou oc bv so bd fi fw se sw ts yb yv : Nat → Int32,
    (u = (lg, og, tp, vt, iv, nI CC, nI AA, nI N, kd, oA, oB, oC, ln, ip, sa, pc, fl, bh, vl, el, ou, oc, bv, so, bd, fi, fw, se, sw, ts) ∧ v = (nI CC, nI AA, nI N, kd, oA, oB, oC, ln, ip, yb, sa, pc, oc, bv, fl, yv, el, ou)) ∧ zz_R CC AA N kd oA oB oC ln ip pc fl bh vl el oc so bd yv
theorem zz_el {P : SX → SY → Prop}
    (h : ∀ (lg og tp vt iv : Int32) (CC AA N : Nat) (kd oA oB oC ln ip sa pc fl bh vl el ou oc bv so bd fi fw se sw ts yb yv : Nat → Int32),
      zz_R CC AA N kd oA oB oC ln ip pc fl bh vl el oc so bd yv → P (lg, og, tp, vt, iv, nI CC, nI AA, nI N, kd, oA, oB, oC, ln, ip, sa, pc, fl, bh, vl, el, ou, oc, bv, so, bd, fi, fw, se, sw, ts) (nI CC, nI AA, nI N, kd, oA, oB, oC, ln, ip, yb, sa, pc, oc, bv, fl, yv, el, ou))
    {k : Nat} {u : SX} {v : SY} (I : i_Rel k u v) : P u v :=
  Exists.elim I fun lg I => Exists.elim I fun og I => Exists.elim I fun tp I => Exists.elim I fun vt I => Exists.elim I fun iv I =>
  Exists.elim I fun CC I => Exists.elim I fun AA I => Exists.elim I fun N I =>
  Exists.elim I fun kd I => Exists.elim I fun oA I => Exists.elim I fun oB I => Exists.elim I fun oC I => Exists.elim I fun ln I => Exists.elim I fun ip I =>
  Exists.elim I fun sa I => Exists.elim I fun pc I => Exists.elim I fun fl I => Exists.elim I fun bh I => Exists.elim I fun vl I => Exists.elim I fun el I =>
  Exists.elim I fun ou I => Exists.elim I fun oc I => Exists.elim I fun bv I => Exists.elim I fun so I => Exists.elim I fun bd I => Exists.elim I fun fi I =>
  Exists.elim I fun fw I => Exists.elim I fun se I => Exists.elim I fun sw I => Exists.elim I fun ts I => Exists.elim I fun yb I => Exists.elim I fun yv I => by
    obtain ⟨⟨hu, hv⟩, hR⟩ := I
    subst hu
    subst hv
    exact h lg og tp vt iv CC AA N kd oA oB oC ln ip sa pc fl bh vl el ou oc bv so bd fi fw se sw ts yb yv hR
theorem zz_in {k : Nat} {lg og tp vt iv : Int32} {CC AA N : Nat} {kd oA oB oC ln ip sa pc fl bh vl el ou oc bv so bd fi fw se sw ts yb yv : Nat → Int32}
    (h : zz_R CC AA N kd oA oB oC ln ip pc fl bh vl el oc so bd yv) : i_Rel k (lg, og, tp, vt, iv, nI CC, nI AA, nI N, kd, oA, oB, oC, ln, ip, sa, pc, fl, bh, vl, el, ou, oc, bv, so, bd, fi, fw, se, sw, ts) (nI CC, nI AA, nI N, kd, oA, oB, oC, ln, ip, yb, sa, pc, oc, bv, fl, yv, el, ou) :=
  ⟨lg, og, tp, vt, iv, CC, AA, N, kd, oA, oB, oC, ln, ip, sa, pc, fl, bh, vl, el, ou, oc, bv, so, bd, fi, fw, se, sw, ts, yb, yv, ⟨rfl, rfl⟩, h⟩
theorem i_up {k : Nat} {u : SX} {v : SY} (h : i_Rel k u v) : i_Rel (k + 5) u v := h
/-! the relation after a reset -/
theorem zz_M0 {pc fl oc el : Nat → Int32} : zz_M (zr_z 2 0 pc) (zr_z 2 0 fl) (zr_z 2 0 oc) (zr_z 96 0 el) := by
  refine ⟨fun m hm => ?_, fun i hi => ?_⟩
  · rw [zr_in hm, zr_in hm, zr_in hm]
    exact ⟨⟨0, by omega, rfl⟩, Or.inl rfl, ⟨0, by omega, rfl⟩⟩
  · rw [zr_in hi, qn_0]; omega
theorem zz_V0 {N : Nat} {bh vl yv : Nat → Int32} : zz_V N (zr_z 64 0 bh) vl (zr_z 64 (-1000) yv) := by
  intro m p hm hp
  rw [zr_in (by omega), zr_in (by omega)]
  exact Or.inl ⟨rfl, rfl⟩
theorem zz_ok0 {N : Nat} {kd oA oB so bd : Nat → Int32} : xe_ok N kd oA oB (zr_z 4 0 so) bd := by
  intro g hg h
  rw [zr_in hg] at h
  exact absurd rfl h
/-! numbers -/
theorem zn_32 (m p : Nat) : nI m * 32 + nI p = nI (32 * m + p) := by rw [show (32 : Int32) = nI 32 from rfl, pk_mul, nI_add, Nat.mul_comm]
theorem zn_16 (m p : Nat) : nI m * 16 + nI p = nI (16 * m + p) := by rw [show (16 : Int32) = nI 16 from rfl, pk_mul, nI_add, Nat.mul_comm]
theorem zn_48 (m k x : Nat) : nI m * 48 + nI k * 16 + nI x = nI (48 * m + 16 * k + x) := by
  rw [show (48 : Int32) = nI 48 from rfl, show (16 : Int32) = nI 16 from rfl, pk_mul, pk_mul, nI_add, nI_add, Nat.mul_comm m, Nat.mul_comm k]
theorem zn_3 (m k x : Nat) : (nI m * 3 + nI k) * 16 + nI x = nI (48 * m + 16 * k + x) := by
  rw [show (3 : Int32) = nI 3 from rfl, show (16 : Int32) = nI 16 from rfl, pk_mul, nI_add, pk_mul, nI_add, show (m * 3 + k) * 16 + x = 48 * m + 16 * k + x from by omega]
theorem zn_m (x : Int32) : (∃ m, m < 2 ∧ x = nI m) ∨ (¬ x = 0 ∧ ¬ x = 1) := by
  by_cases h0 : x = 0
  · exact Or.inl ⟨0, by omega, h0⟩
  · by_cases h1 : x = 1
    · exact Or.inl ⟨1, by omega, h1⟩
    · exact Or.inr ⟨h0, h1⟩
theorem zn_c {m : Nat} (hm : m < 2) : nI m = 0 ∨ nI m = 1 := by
  rcases (by omega : m = 0 ∨ m = 1) with rfl | rfl
  · exact Or.inl rfl
  · exact Or.inr rfl
theorem zn_y {A B : Prop} {x : Int32} (hx : x = 0 ∨ x = 1) (a : A) : (x = 0 → A) ∧ (¬ x = 0 → ((x = 1 → A) ∧ (¬ x = 1 → B))) :=
  ⟨fun _ => a, fun h => ⟨fun _ => a, fun h1 => (hx.elim h h1).elim⟩⟩
theorem zn_y0 {A B : Prop} {x : Int32} (h0 : ¬ x = 0) (h1 : ¬ x = 1) (b : B) : (x = 0 → A) ∧ (¬ x = 0 → ((x = 1 → A) ∧ (¬ x = 1 → B))) := br_f h0 (br_f h1 b)
variable {lg og tp vt iv ce ac fn : Int32} {kd oA oB oC ln ip sa pc fl bh vl el ou oc bv so bd fi fw se sw ts : Nat → Int32}
variable {N AA : Nat}
theorem zx_m {x : Int32} (hx : x = 0 ∨ x = 1) {post : Int32 → Prop} (h : post 1) : wpX_isMachine post (lg, og, tp, vt, iv, ce, ac, fn, kd, oA, oB, oC, ln, ip, sa, pc, fl, bh, vl, el, ou, oc, bv, so, bd, fi, fw, se, sw, ts) x := zn_y hx h
theorem zx_m0 {x : Int32} (h0 : ¬ x = 0) (h1 : ¬ x = 1) {post : Int32 → Prop} (h : post 0) : wpX_isMachine post (lg, og, tp, vt, iv, ce, ac, fn, kd, oA, oB, oC, ln, ip, sa, pc, fl, bh, vl, el, ou, oc, bv, so, bd, fi, fw, se, sw, ts) x := zn_y0 h0 h1 h
theorem zx_e {p : Nat} (hN : N ≤ 32) (hp : p < N) {post : Int32 → Prop} (h : post 1) : wpX_isEarlier post (lg, og, tp, vt, iv, ce, ac, nI N, kd, oA, oB, oC, ln, ip, sa, pc, fl, bh, vl, el, ou, oc, bv, so, bd, fi, fw, se, sw, ts) (nI p) := br_f (nI_pos (by omega)) (br_f (nI_ge hp (by omega)) h)
theorem zx_e0 {x : Int32} (hx : x < 0 ∨ nI N ≤ x) {post : Int32 → Prop} (h : post 0) : wpX_isEarlier post (lg, og, tp, vt, iv, ce, ac, nI N, kd, oA, oB, oC, ln, ip, sa, pc, fl, bh, vl, el, ou, oc, bv, so, bd, fi, fw, se, sw, ts) x :=
  br_c (fun _ => h) (fun hn => br_t (hx.resolve_left hn) h)
theorem zx_a {k : Nat} (hA : AA ≤ 3) (hk : k < AA) {post : Int32 → Prop} (h : post 1) : wpX_isArray post (lg, og, tp, vt, iv, ce, nI AA, fn, kd, oA, oB, oC, ln, ip, sa, pc, fl, bh, vl, el, ou, oc, bv, so, bd, fi, fw, se, sw, ts) (nI k) := br_f (nI_pos (by omega)) (br_f (nI_ge hk (by omega)) h)
theorem zx_a0 {x : Int32} (hx : x < 0 ∨ nI AA ≤ x) {post : Int32 → Prop} (h : post 0) : wpX_isArray post (lg, og, tp, vt, iv, ce, nI AA, fn, kd, oA, oB, oC, ln, ip, sa, pc, fl, bh, vl, el, ou, oc, bv, so, bd, fi, fw, se, sw, ts) x :=
  br_c (fun _ => h) (fun hn => br_t (hx.resolve_left hn) h)
theorem zx_w {x lo hi : Int32} (h1 : lo ≤ x) (h2 : x ≤ hi) {post : Int32 → Prop} (h : post 1) : wpX_within post (lg, og, tp, vt, iv, ce, ac, fn, kd, oA, oB, oC, ln, ip, sa, pc, fl, bh, vl, el, ou, oc, bv, so, bd, fi, fw, se, sw, ts) x lo hi := br_f (Int32.not_lt.mpr h1) (br_f (Int32.not_lt.mpr h2) h)
theorem zx_w0 {x lo hi : Int32} (hx : x < lo ∨ hi < x) {post : Int32 → Prop} (h : post 0) : wpX_within post (lg, og, tp, vt, iv, ce, ac, fn, kd, oA, oB, oC, ln, ip, sa, pc, fl, bh, vl, el, ou, oc, bv, so, bd, fi, fw, se, sw, ts) x lo hi := br_c (fun _ => h) (fun hn => br_t (hx.resolve_left hn) h)
end ZZ
end
section
section ZE
/-! emit: the operands -/
variable {CC AA N : Nat} {c a b d : Int32}
def ze_cell (N : Nat) (x f : Int32) : Prop := (f = 1 ∧ ∃ q, q < N ∧ x = nI q) ∨ (f = 0 ∧ (x < 0 ∨ nI N ≤ x))
theorem ze_cell_ex (hN : N ≤ 32) (x : Int32) : ∃ f : Int32, ze_cell N x f := by
  rcases pk_ix x (n := N) (by omega) with h | h | h
  · exact ⟨0, Or.inr ⟨rfl, Or.inl h⟩⟩
  · exact ⟨0, Or.inr ⟨rfl, Or.inr h⟩⟩
  · exact ⟨1, Or.inl ⟨rfl, h⟩⟩
def ze_F (CC AA N : Nat) (kd : Nat → Int32) (c a b d : Int32) (WX WY : (Int32 → Prop) → Prop) : Prop :=
  ∃ r : Int32, (r = 0 ∨ (r = 1 ∧ cr_ok CC AA N kd c a b d)) ∧ (∀ post : Int32 → Prop, post r → WX post) ∧ (∀ post : Int32 → Prop, post r → WY post)
variable {lg og tp vt iv ce ac fn : Int32} {kd oA oB oC ln ip sa pc fl bh vl el ou oc bv so bd fi fw se sw ts : Nat → Int32}
variable {yb yv : Nat → Int32}
theorem ze_36 {fa fb : Int32} (hN : N ≤ 32) (ha : ze_cell N a fa) (hb : ze_cell N b fb) {post : Int32 → Prop} (h : wY_fits_36 post c a b d fa fb ce ac (nI N) kd oA oB oC ln ip yb sa pc oc bv fl yv el ou) : wpY_fits post (ce, ac, nI N, kd, oA, oB, oC, ln, ip, yb, sa, pc, oc, bv, fl, yv, el, ou) c a b d := by
  have hb2 : wY_fits_17 post c a b d fa ce ac (nI N) kd oA oB oC ln ip yb sa pc oc bv fl yv el ou := by
    rcases hb with ⟨rfl, q, hq, rfl⟩ | ⟨rfl, hb⟩
    · exact br_f (nI_pos (by omega)) (br_f (nI_ge hq (by omega)) h)
    · exact br_c (fun _ => h) (fun hn => br_t (hb.resolve_left hn) h)
  rcases ha with ⟨rfl, q, hq, rfl⟩ | ⟨rfl, ha⟩
  · exact br_f (nI_pos (by omega)) (br_f (nI_ge hq (by omega)) hb2)
  · exact br_c (fun _ => hb2) (fun hn => br_t (ha.resolve_left hn) hb2)
theorem ze_k0 {fa fb : Int32} (hN : N ≤ 32) (ha : ze_cell N a fa) (hb : ze_cell N b fb) :
    ze_F CC AA N kd 0 a b d (fun post => wpX_operandsFit post (lg, og, tp, vt, iv, nI CC, nI AA, nI N, kd, oA, oB, oC, ln, ip, sa, pc, fl, bh, vl, el, ou, oc, bv, so, bd, fi, fw, se, sw, ts) 0 a b d) (fun post => wpY_fits post (nI CC, nI AA, nI N, kd, oA, oB, oC, ln, ip, yb, sa, pc, oc, bv, fl, yv, el, ou) 0 a b d) := by
  by_cases h1 : a < -15
  · exact ⟨0, Or.inl rfl, fun post h => br_f (by decide) (br_f (by decide) (br_t rfl (zx_w0 (Or.inl h1) ⟨narrow_b0, h⟩))), fun post h => ze_36 hN ha hb (br_t rfl (br_t h1 h))⟩
  · by_cases h2 : 15 < a
    · exact ⟨0, Or.inl rfl, fun post h => br_f (by decide) (br_f (by decide) (br_t rfl (zx_w0 (Or.inr h2) ⟨narrow_b0, h⟩))), fun post h => ze_36 hN ha hb (br_t rfl (br_f h1 (br_t h2 h)))⟩
    · refine ⟨1, Or.inr ⟨rfl, Or.inl ⟨rfl, ?_, ?_⟩⟩, fun post h => br_f (by decide) (br_f (by decide) (br_t rfl (zx_w (Int32.not_lt.mp h1) (Int32.not_lt.mp h2) ⟨narrow_b1, h⟩))), fun post h => ze_36 hN ha hb (br_t rfl (br_f h1 (br_f h2 h)))⟩
      · rw [qn_lt, show (-15 : Int32).toInt = -15 from by decide] at h1; omega
      · rw [qn_lt, show (15 : Int32).toInt = 15 from by decide] at h2; omega
theorem ze_k1 {fa fb : Int32} (hN : N ≤ 32) (hA : AA ≤ 3) (ha : ze_cell N a fa) (hb : ze_cell N b fb) :
    ze_F CC AA N kd 1 a b d (fun post => wpX_operandsFit post (lg, og, tp, vt, iv, nI CC, nI AA, nI N, kd, oA, oB, oC, ln, ip, sa, pc, fl, bh, vl, el, ou, oc, bv, so, bd, fi, fw, se, sw, ts) 1 a b d) (fun post => wpY_fits post (nI CC, nI AA, nI N, kd, oA, oB, oC, ln, ip, yb, sa, pc, oc, bv, fl, yv, el, ou) 1 a b d) := by
  rcases pk_ix a (n := AA) (by omega) with h1 | h1 | ⟨k, hk, h1⟩
  · exact ⟨0, Or.inl rfl, fun post h => br_f (by decide) (br_f (by decide) (br_f (by decide) (br_t rfl (zx_a0 (Or.inl h1) ⟨narrow_b0, h⟩)))), fun post h => ze_36 hN ha hb (br_f (by decide) (br_t rfl (br_t h1 h)))⟩
  · exact ⟨0, Or.inl rfl, fun post h => br_f (by decide) (br_f (by decide) (br_f (by decide) (br_t rfl (zx_a0 (Or.inr h1) ⟨narrow_b0, h⟩)))), fun post h => ze_36 hN ha hb (br_f (by decide) (br_t rfl (br_c (fun _ => h) (fun _ => br_t h1 h))))⟩
  · subst h1
    exact ⟨1, Or.inr ⟨rfl, Or.inr (Or.inl ⟨rfl, k, hk, rfl⟩)⟩, fun post h => br_f (by decide) (br_f (by decide) (br_f (by decide) (br_t rfl (zx_a hA hk ⟨narrow_b1, h⟩)))), fun post h => ze_36 hN ha hb (br_f (by decide) (br_t rfl (br_f (nI_pos (by omega)) (br_f (nI_ge hk (by omega)) h))))⟩
theorem ze_k2 {fa fb : Int32} (hN : N ≤ 32) (ha : ze_cell N a fa) (hb : ze_cell N b fb) :
    ze_F CC AA N kd 2 a b d (fun post => wpX_operandsFit post (lg, og, tp, vt, iv, nI CC, nI AA, nI N, kd, oA, oB, oC, ln, ip, sa, pc, fl, bh, vl, el, ou, oc, bv, so, bd, fi, fw, se, sw, ts) 2 a b d) (fun post => wpY_fits post (nI CC, nI AA, nI N, kd, oA, oB, oC, ln, ip, yb, sa, pc, oc, bv, fl, yv, el, ou) 2 a b d) := by
  by_cases h1 : a < 0
  · exact ⟨0, Or.inl rfl, fun post h => br_f (by decide) (br_f (by decide) (br_f (by decide) (br_f (by decide) (br_t rfl (zx_w0 (Or.inl h1) ⟨narrow_b0, h⟩))))), fun post h => ze_36 hN ha hb (br_f (by decide) (br_f (by decide) (br_t rfl (br_t h1 h))))⟩
  · by_cases h2 : 3 < a
    · exact ⟨0, Or.inl rfl, fun post h => br_f (by decide) (br_f (by decide) (br_f (by decide) (br_f (by decide) (br_t rfl (zx_w0 (Or.inr h2) ⟨narrow_b0, h⟩))))), fun post h => ze_36 hN ha hb (br_f (by decide) (br_f (by decide) (br_t rfl (br_f h1 (br_t h2 h)))))⟩
    · refine ⟨1, Or.inr ⟨rfl, Or.inr (Or.inr (Or.inl ⟨rfl, ?_⟩))⟩, fun post h => br_f (by decide) (br_f (by decide) (br_f (by decide) (br_f (by decide) (br_t rfl (zx_w (Int32.not_lt.mp h1) (Int32.not_lt.mp h2) ⟨narrow_b1, h⟩))))), fun post h => ze_36 hN ha hb (br_f (by decide) (br_f (by decide) (br_t rfl (br_f h1 (br_f h2 h)))))⟩
      obtain ⟨j, hj, e⟩ := nI_of2 (M := 3) (n := 3) (by decide) h1 (Int32.not_lt.mp h2)
      exact ⟨j, by omega, e⟩
theorem ze_34x {z : Int32} {post : Int32 → Prop} (hz : z = 3 ∨ z = 4) (h : wX_operandsFit_100 post a b lg og tp vt iv (nI CC) (nI AA) (nI N) kd oA oB oC ln ip sa pc fl bh vl el ou oc bv so bd fi fw se sw ts) : wpX_operandsFit post (lg, og, tp, vt, iv, nI CC, nI AA, nI N, kd, oA, oB, oC, ln, ip, sa, pc, fl, bh, vl, el, ou, oc, bv, so, bd, fi, fw, se, sw, ts) z a b d := by
  rcases hz with rfl | rfl
  · exact br_f (by decide) (br_f (by decide) (br_f (by decide) (br_f (by decide) (br_f (by decide) (br_t rfl h)))))
  · exact br_f (by decide) (br_f (by decide) (br_f (by decide) (br_f (by decide) (br_f (by decide) (br_f (by decide) (br_t rfl h))))))
theorem ze_34y {z fa fb : Int32} {post : Int32 → Prop} (hN : N ≤ 32) (ha : ze_cell N a fa) (hb : ze_cell N b fb) (hz : z = 3 ∨ z = 4) (h : wY_fits_113 post b fa (nI CC) (nI AA) (nI N) kd oA oB oC ln ip yb sa pc oc bv fl yv el ou) : wpY_fits post (nI CC, nI AA, nI N, kd, oA, oB, oC, ln, ip, yb, sa, pc, oc, bv, fl, yv, el, ou) z a b d := by
  rcases hz with rfl | rfl
  · exact ze_36 hN ha hb (br_f (by decide) (br_f (by decide) (br_f (by decide) (br_t rfl h))))
  · exact ze_36 hN ha hb (br_f (by decide) (br_f (by decide) (br_f (by decide) (br_f (by decide) (br_t rfl h)))))
theorem ze_k34 {z fa fb : Int32} (hN : N ≤ 32) (hz : z = 3 ∨ z = 4) (ha : ze_cell N a fa) (hb : ze_cell N b fb) :
    ze_F CC AA N kd z a b d (fun post => wpX_operandsFit post (lg, og, tp, vt, iv, nI CC, nI AA, nI N, kd, oA, oB, oC, ln, ip, sa, pc, fl, bh, vl, el, ou, oc, bv, so, bd, fi, fw, se, sw, ts) z a b d) (fun post => wpY_fits post (nI CC, nI AA, nI N, kd, oA, oB, oC, ln, ip, yb, sa, pc, oc, bv, fl, yv, el, ou) z a b d) := by
  have ha2 := ha
  rcases ha2 with ⟨rfl, q, hq, e⟩ | ⟨rfl, ha2⟩
  · by_cases h1 : b < -4
    · exact ⟨0, Or.inl rfl, fun post h => ze_34x hz (by rw [e]; exact zx_e hN hq (br_f (by decide) (zx_w0 (Or.inl h1) (br_t rfl h)))), fun post h => ze_34y hN ha hb hz (br_f (by decide) (br_t h1 h))⟩
    · by_cases h2 : 4 < b
      · exact ⟨0, Or.inl rfl, fun post h => ze_34x hz (by rw [e]; exact zx_e hN hq (br_f (by decide) (zx_w0 (Or.inr h2) (br_t rfl h)))), fun post h => ze_34y hN ha hb hz (br_f (by decide) (br_f h1 (br_t h2 h)))⟩
      · refine ⟨1, Or.inr ⟨rfl, Or.inr (Or.inr (Or.inr (Or.inl ⟨hz, ⟨q, hq, e⟩, ?_, ?_⟩)))⟩, fun post h => ze_34x hz (by rw [e]; exact zx_e hN hq (br_f (by decide) (zx_w (Int32.not_lt.mp h1) (Int32.not_lt.mp h2) (br_f (by decide) h)))), fun post h => ze_34y hN ha hb hz (br_f (by decide) (br_f h1 (br_f h2 h)))⟩
        · rw [qn_lt, show (-4 : Int32).toInt = -4 from by decide] at h1; omega
        · rw [qn_lt, show (4 : Int32).toInt = 4 from by decide] at h2; omega
  · exact ⟨0, Or.inl rfl, fun post h => ze_34x hz (zx_e0 ha2 (br_t rfl h)), fun post h => ze_34y hN ha hb hz (br_t rfl h)⟩
theorem ze_k5 {fa fb : Int32} (hN : N ≤ 32) (hC : CC ≤ 32) (ha : ze_cell N a fa) (hb : ze_cell N b fb) :
    ze_F CC AA N kd 5 a b d (fun post => wpX_operandsFit post (lg, og, tp, vt, iv, nI CC, nI AA, nI N, kd, oA, oB, oC, ln, ip, sa, pc, fl, bh, vl, el, ou, oc, bv, so, bd, fi, fw, se, sw, ts) 5 a b d) (fun post => wpY_fits post (nI CC, nI AA, nI N, kd, oA, oB, oC, ln, ip, yb, sa, pc, oc, bv, fl, yv, el, ou) 5 a b d) := by
  have hX : ∀ post : Int32 → Prop, wpX_isEarlier (fun r_265 => (((r_265 = 0 → (post 0)) ∧ (¬ r_265 = 0 → (((b < 0 → (post 0)) ∧ (¬ b < 0 → (((nI CC ≤ b → (post 0)) ∧ (¬ nI CC ≤ b → (post 1))))))))))) (lg, og, tp, vt, iv, nI CC, nI AA, nI N, kd, oA, oB, oC, ln, ip, sa, pc, fl, bh, vl, el, ou, oc, bv, so, bd, fi, fw, se, sw, ts) a → wpX_operandsFit post (lg, og, tp, vt, iv, nI CC, nI AA, nI N, kd, oA, oB, oC, ln, ip, sa, pc, fl, bh, vl, el, ou, oc, bv, so, bd, fi, fw, se, sw, ts) 5 a b d :=
    fun post h => br_f (by decide) (br_f (by decide) (br_f (by decide) (br_f (by decide) (br_f (by decide) (br_f (by decide) (br_f (by decide) (br_t rfl h)))))))
  have hY : ∀ post : Int32 → Prop, ((fa = 0 → (post 0)) ∧ (¬ fa = 0 → (((b < 0 → (post 0)) ∧ (¬ b < 0 → (((nI CC ≤ b → (post 0)) ∧ (¬ nI CC ≤ b → (post 1))))))))) → wpY_fits post (nI CC, nI AA, nI N, kd, oA, oB, oC, ln, ip, yb, sa, pc, oc, bv, fl, yv, el, ou) 5 a b d :=
    fun post h => ze_36 hN ha hb (br_f (by decide) (br_f (by decide) (br_f (by decide) (br_f (by decide) (br_f (by decide) (br_t rfl h))))))
  have ha2 := ha
  rcases ha2 with ⟨rfl, q, hq, e⟩ | ⟨rfl, ha2⟩
  · rcases pk_ix b (n := CC) (by omega) with h1 | h1 | ⟨k, hk, h1⟩
    · exact ⟨0, Or.inl rfl, fun post h => hX post (by rw [e]; exact zx_e hN hq (br_f (by decide) (br_t h1 h))), fun post h => hY post (br_f (by decide) (br_t h1 h))⟩
    · exact ⟨0, Or.inl rfl, fun post h => hX post (by rw [e]; exact zx_e hN hq (br_f (by decide) (br_c (fun _ => h) (fun _ => br_t h1 h)))), fun post h => hY post (br_f (by decide) (br_c (fun _ => h) (fun _ => br_t h1 h)))⟩
    · have n1 : ¬ b < 0 := by rw [h1]; exact nI_pos (by omega)
      have n2 : ¬ nI CC ≤ b := by rw [h1]; exact nI_ge hk (by omega)
      exact ⟨1, Or.inr ⟨rfl, Or.inr (Or.inr (Or.inr (Or.inr (Or.inl ⟨rfl, ⟨q, hq, e⟩, k, hk, h1⟩))))⟩, fun post h => hX post (by rw [e]; exact zx_e hN hq (br_f (by decide) (br_f n1 (br_f n2 h)))), fun post h => hY post (br_f (by decide) (br_f n1 (br_f n2 h)))⟩
  · exact ⟨0, Or.inl rfl, fun post h => hX post (zx_e0 ha2 (br_t rfl h)), fun post h => hY post (br_t rfl h)⟩
theorem ze_k69 {z fa fb : Int32} (hN : N ≤ 32) (hC : CC ≤ 32) (hz : z = 6 ∨ z = 7 ∨ z = 8 ∨ z = 9) (ha : ze_cell N a fa) (hb : ze_cell N b fb) :
    ze_F CC AA N kd z a b d (fun post => wpX_operandsFit post (lg, og, tp, vt, iv, nI CC, nI AA, nI N, kd, oA, oB, oC, ln, ip, sa, pc, fl, bh, vl, el, ou, oc, bv, so, bd, fi, fw, se, sw, ts) z a b d) (fun post => wpY_fits post (nI CC, nI AA, nI N, kd, oA, oB, oC, ln, ip, yb, sa, pc, oc, bv, fl, yv, el, ou) z a b d) := by
  have hX : ∀ post : Int32 → Prop, wX_operandsFit_218 post a b d lg og tp vt iv (nI CC) (nI AA) (nI N) kd oA oB oC ln ip sa pc fl bh vl el ou oc bv so bd fi fw se sw ts → wpX_operandsFit post (lg, og, tp, vt, iv, nI CC, nI AA, nI N, kd, oA, oB, oC, ln, ip, sa, pc, fl, bh, vl, el, ou, oc, bv, so, bd, fi, fw, se, sw, ts) z a b d := by
    intro post h
    rcases hz with rfl | rfl | rfl | rfl
    · exact br_f (by decide) (br_f (by decide) (br_f (by decide) (br_f (by decide) (br_f (by decide) (br_f (by decide) (br_f (by decide) (br_f (by decide) (br_t rfl h))))))))
    · exact br_f (by decide) (br_f (by decide) (br_f (by decide) (br_f (by decide) (br_f (by decide) (br_f (by decide) (br_f (by decide) (br_f (by decide) (br_f (by decide) (br_t rfl h)))))))))
    · exact br_f (by decide) (br_f (by decide) (br_f (by decide) (br_f (by decide) (br_f (by decide) (br_f (by decide) (br_f (by decide) (br_f (by decide) (br_f (by decide) (br_f (by decide) (br_t rfl h))))))))))
    · exact br_f (by decide) (br_f (by decide) (br_f (by decide) (br_f (by decide) (br_f (by decide) (br_f (by decide) (br_f (by decide) (br_f (by decide) (br_f (by decide) (br_f (by decide) (br_f (by decide) (br_t rfl h)))))))))))
  have hY : ∀ post : Int32 → Prop, ((fa = 0 → (post 0)) ∧ (¬ fa = 0 → (((fb = 0 → (post 0)) ∧ (¬ fb = 0 → (((d < 0 → (post 0)) ∧ (¬ d < 0 → (((nI CC < d → (post 0)) ∧ (¬ nI CC < d → (post 1)))))))))))) → wpY_fits post (nI CC, nI AA, nI N, kd, oA, oB, oC, ln, ip, yb, sa, pc, oc, bv, fl, yv, el, ou) z a b d := by
    intro post h
    refine ze_36 hN ha hb ?_
    rcases hz with rfl | rfl | rfl | rfl <;>
      exact br_f (by decide) (br_f (by decide) (br_f (by decide) (br_f (by decide) (br_f (by decide) (br_f (by decide) (br_f (by decide) (br_f (by decide) h)))))))
  have ha2 := ha
  have hb2 := hb
  rcases ha2 with ⟨rfl, q, hq, e⟩ | ⟨rfl, ha2⟩
  · rcases hb2 with ⟨rfl, q2, hq2, e2⟩ | ⟨rfl, hb2⟩
    · by_cases h1 : d < 0
      · exact ⟨0, Or.inl rfl, fun post h => hX post (by rw [e, e2]; exact zx_e hN hq (br_f (by decide) (zx_e hN hq2 (br_f (by decide) (zx_w0 (Or.inl h1) (br_t rfl h)))))), fun post h => hY post (br_f (by decide) (br_f (by decide) (br_t h1 h)))⟩
      · by_cases h2 : nI CC < d
        · exact ⟨0, Or.inl rfl, fun post h => hX post (by rw [e, e2]; exact zx_e hN hq (br_f (by decide) (zx_e hN hq2 (br_f (by decide) (zx_w0 (Or.inr h2) (br_t rfl h)))))), fun post h => hY post (br_f (by decide) (br_f (by decide) (br_f h1 (br_t h2 h))))⟩
        · obtain ⟨j, hj, ej⟩ := nI_of2 (M := nI CC) (n := CC) (qn_n (by omega)) h1 (Int32.not_lt.mp h2)
          exact ⟨1, Or.inr ⟨rfl, Or.inr (Or.inr (Or.inr (Or.inr (Or.inr (Or.inl ⟨hz, ⟨q, hq, e⟩, ⟨q2, hq2, e2⟩, j, hj, ej⟩)))))⟩,
            fun post h => hX post (by rw [e, e2]; exact zx_e hN hq (br_f (by decide) (zx_e hN hq2 (br_f (by decide) (zx_w (Int32.not_lt.mp h1) (Int32.not_lt.mp h2) (br_f (by decide) h)))))), fun post h => hY post (br_f (by decide) (br_f (by decide) (br_f h1 (br_f h2 h))))⟩
    · exact ⟨0, Or.inl rfl, fun post h => hX post (by rw [e]; exact zx_e hN hq (br_f (by decide) (zx_e0 hb2 (br_t rfl h)))), fun post h => hY post (br_f (by decide) (br_t rfl h))⟩
  · exact ⟨0, Or.inl rfl, fun post h => hX post (zx_e0 ha2 (br_t rfl h)), fun post h => hY post (br_t rfl h)⟩
end ZE
end
section
section ZF
/-! emit -/
variable {CC AA N : Nat} {c a b d : Int32}
variable {lg og tp vt iv ce ac fn : Int32} {kd oA oB oC ln ip sa pc fl bh vl el ou oc bv so bd fi fw se sw ts : Nat → Int32}
variable {yb yv : Nat → Int32}
theorem zf_205 {z fa fb : Int32} (hN : N ≤ 32) (hz : z = 10 ∨ z = 11 ∨ z = 12 ∨ z = 13 ∨ z = 14) (ha : ze_cell N a fa) (hb : ze_cell N b fb) {post : Int32 → Prop} (h : wY_fits_205 post z a b fa fb (nI CC) (nI AA) (nI N) kd oA oB oC ln ip yb sa pc oc bv fl yv el ou) :
    wpY_fits post (nI CC, nI AA, nI N, kd, oA, oB, oC, ln, ip, yb, sa, pc, oc, bv, fl, yv, el, ou) z a b d := by
  refine ze_36 hN ha hb ?_
  rcases hz with rfl | rfl | rfl | rfl | rfl <;>
    exact br_f (by decide) (br_f (by decide) (br_f (by decide) (br_f (by decide) (br_f (by decide) (br_f (by decide) (br_f (by decide) (br_t (by decide) h)))))))
theorem zf_ck {q : Nat} (hN : N ≤ 32) (hq : q < N) (hk : kd q = 10) {post : Int32 → Prop} (h : post 1) : wpX_isCheck post (lg, og, tp, vt, iv, ce, ac, nI N, kd, oA, oB, oC, ln, ip, sa, pc, fl, bh, vl, el, ou, oc, bv, so, bd, fi, fw, se, sw, ts) (nI q) := by
  unfold wpX_isCheck
  dsimp only
  refine zx_e hN hq (br_f (by decide) ⟨vp_in_nI (by omega) (by omega), ?_⟩)
  rw [nI_clamp (by omega)]
  exact br_t hk h
theorem zf_ckn {q : Nat} (hN : N ≤ 32) (hq : q < N) (hk : ¬ kd q = 10) {post : Int32 → Prop} (h : post 0) : wpX_isCheck post (lg, og, tp, vt, iv, ce, ac, nI N, kd, oA, oB, oC, ln, ip, sa, pc, fl, bh, vl, el, ou, oc, bv, so, bd, fi, fw, se, sw, ts) (nI q) := by
  unfold wpX_isCheck
  dsimp only
  refine zx_e hN hq (br_f (by decide) ⟨vp_in_nI (by omega) (by omega), ?_⟩)
  rw [nI_clamp (by omega)]
  exact br_f hk h
theorem zf_ck0 {x : Int32} (hx : x < 0 ∨ nI N ≤ x) {post : Int32 → Prop} (h : post 0) : wpX_isCheck post (lg, og, tp, vt, iv, ce, ac, nI N, kd, oA, oB, oC, ln, ip, sa, pc, fl, bh, vl, el, ou, oc, bv, so, bd, fi, fw, se, sw, ts) x := by
  unfold wpX_isCheck
  dsimp only
  exact zx_e0 hx (br_t rfl h)
theorem zf_k10 {fa fb : Int32} (hN : N ≤ 32) (hA : AA ≤ 3) (ha : ze_cell N a fa) (hb : ze_cell N b fb) :
    ze_F CC AA N kd 10 a b d (fun post => wpX_operandsFit post (lg, og, tp, vt, iv, nI CC, nI AA, nI N, kd, oA, oB, oC, ln, ip, sa, pc, fl, bh, vl, el, ou, oc, bv, so, bd, fi, fw, se, sw, ts) 10 a b d) (fun post => wpY_fits post (nI CC, nI AA, nI N, kd, oA, oB, oC, ln, ip, yb, sa, pc, oc, bv, fl, yv, el, ou) 10 a b d) := by
  have hX : ∀ post : Int32 → Prop, wpX_isEarlier (fun r_304 => (((r_304 = 0 → (post 0)) ∧ (¬ r_304 = 0 → (wpX_isArray (fun r_336 => (((r_336 = 0 → (post 0)) ∧ (¬ r_336 = 0 → (post 1))))) (lg, og, tp, vt, iv, nI CC, nI AA, nI N, kd, oA, oB, oC, ln, ip, sa, pc, fl, bh, vl, el, ou, oc, bv, so, bd, fi, fw, se, sw, ts) b))))) (lg, og, tp, vt, iv, nI CC, nI AA, nI N, kd, oA, oB, oC, ln, ip, sa, pc, fl, bh, vl, el, ou, oc, bv, so, bd, fi, fw, se, sw, ts) a → wpX_operandsFit post (lg, og, tp, vt, iv, nI CC, nI AA, nI N, kd, oA, oB, oC, ln, ip, sa, pc, fl, bh, vl, el, ou, oc, bv, so, bd, fi, fw, se, sw, ts) 10 a b d :=
    fun post h => br_f (by decide) (br_f (by decide) (br_f (by decide) (br_f (by decide) (br_f (by decide) (br_f (by decide) (br_f (by decide) (br_f (by decide) (br_f (by decide) (br_f (by decide) (br_f (by decide) (br_f (by decide) (br_t rfl h))))))))))))
  have ha2 := ha
  rcases ha2 with ⟨rfl, q, hq, e⟩ | ⟨rfl, ha2⟩
  · rcases pk_ix b (n := AA) (by omega) with h1 | h1 | ⟨k, hk, h1⟩
    · exact ⟨0, Or.inl rfl, fun post h => hX post (by rw [e]; exact zx_e hN hq (br_f (by decide) (zx_a0 (Or.inl h1) (br_t rfl h)))), fun post h => zf_205 hN (by decide) ha hb (br_t rfl (br_f (by decide) (br_t h1 h)))⟩
    · exact ⟨0, Or.inl rfl, fun post h => hX post (by rw [e]; exact zx_e hN hq (br_f (by decide) (zx_a0 (Or.inr h1) (br_t rfl h)))), fun post h => zf_205 hN (by decide) ha hb (br_t rfl (br_f (by decide) (br_c (fun _ => h) (fun _ => br_t h1 h))))⟩
    · have n1 : ¬ b < 0 := by rw [h1]; exact nI_pos (by omega)
      have n2 : ¬ nI AA ≤ b := by rw [h1]; exact nI_ge hk (by omega)
      exact ⟨1, Or.inr ⟨rfl, Or.inr (Or.inr (Or.inr (Or.inr (Or.inr (Or.inr (Or.inl ⟨rfl, ⟨q, hq, e⟩, k, hk, h1⟩))))))⟩, fun post h => hX post (by rw [e, h1]; exact zx_e hN hq (br_f (by decide) (zx_a hA hk (br_f (by decide) h)))), fun post h => zf_205 hN (by decide) ha hb (br_t rfl (br_f (by decide) (br_f n1 (br_f n2 h))))⟩
  · exact ⟨0, Or.inl rfl, fun post h => hX post (zx_e0 ha2 (br_t rfl h)), fun post h => zf_205 hN (by decide) ha hb (br_t rfl (br_t rfl h))⟩
theorem zf_k11 {fa fb : Int32} (hN : N ≤ 32) (ha : ze_cell N a fa) (hb : ze_cell N b fb) :
    ze_F CC AA N kd 11 a b d (fun post => wpX_operandsFit post (lg, og, tp, vt, iv, nI CC, nI AA, nI N, kd, oA, oB, oC, ln, ip, sa, pc, fl, bh, vl, el, ou, oc, bv, so, bd, fi, fw, se, sw, ts) 11 a b d) (fun post => wpY_fits post (nI CC, nI AA, nI N, kd, oA, oB, oC, ln, ip, yb, sa, pc, oc, bv, fl, yv, el, ou) 11 a b d) := by
  have hX : ∀ post : Int32 → Prop, wpX_isCheck (fun r_369 => (narrow .boolean (.int r_369) = .int r_369 ∧ (post r_369))) (lg, og, tp, vt, iv, nI CC, nI AA, nI N, kd, oA, oB, oC, ln, ip, sa, pc, fl, bh, vl, el, ou, oc, bv, so, bd, fi, fw, se, sw, ts) a → wpX_operandsFit post (lg, og, tp, vt, iv, nI CC, nI AA, nI N, kd, oA, oB, oC, ln, ip, sa, pc, fl, bh, vl, el, ou, oc, bv, so, bd, fi, fw, se, sw, ts) 11 a b d :=
    fun post h => br_f (by decide) (br_f (by decide) (br_f (by decide) (br_f (by decide) (br_f (by decide) (br_f (by decide) (br_f (by decide) (br_f (by decide) (br_f (by decide) (br_f (by decide) (br_f (by decide) (br_f (by decide) (br_f (by decide) (br_t rfl h)))))))))))))
  have ha2 := ha
  rcases ha2 with ⟨rfl, q, hq, e⟩ | ⟨rfl, ha2⟩
  · have v : vp_in a 32 := by rw [e]; exact vp_in_nI (by omega) (by omega)
    have cl : a.toNatClampNeg = q := by rw [e]; exact nI_clamp (by omega)
    by_cases hk : kd q = 10
    · exact ⟨1, Or.inr ⟨rfl, Or.inr (Or.inr (Or.inr (Or.inr (Or.inr (Or.inr (Or.inr (Or.inl ⟨rfl, q, hq, e, hk⟩)))))))⟩, fun post h => hX post (by rw [e]; exact zf_ck hN hq hk ⟨narrow_b1, h⟩), fun post h => zf_205 hN (by decide) ha hb (br_f (by decide) (br_t rfl (br_f (by decide) ⟨v, br_t (by rw [cl]; exact hk) h⟩)))⟩
    · exact ⟨0, Or.inl rfl, fun post h => hX post (by rw [e]; exact zf_ckn hN hq hk ⟨narrow_b0, h⟩), fun post h => zf_205 hN (by decide) ha hb (br_f (by decide) (br_t rfl (br_f (by decide) ⟨v, br_f (by rw [cl]; exact hk) h⟩)))⟩
  · exact ⟨0, Or.inl rfl, fun post h => hX post (zf_ck0 ha2 ⟨narrow_b0, h⟩), fun post h => zf_205 hN (by decide) ha hb (br_f (by decide) (br_t rfl (br_t rfl h)))⟩
theorem zf_k12 {fa fb : Int32} (hN : N ≤ 32) (ha : ze_cell N a fa) (hb : ze_cell N b fb) :
    ze_F CC AA N kd 12 a b d (fun post => wpX_operandsFit post (lg, og, tp, vt, iv, nI CC, nI AA, nI N, kd, oA, oB, oC, ln, ip, sa, pc, fl, bh, vl, el, ou, oc, bv, so, bd, fi, fw, se, sw, ts) 12 a b d) (fun post => wpY_fits post (nI CC, nI AA, nI N, kd, oA, oB, oC, ln, ip, yb, sa, pc, oc, bv, fl, yv, el, ou) 12 a b d) := by
  have hX : ∀ post : Int32 → Prop, wpX_isCheck (fun r_402 => (((r_402 = 0 → (post 0)) ∧ (¬ r_402 = 0 → (wpX_isEarlier (fun r_434 => (((r_434 = 0 → (post 0)) ∧ (¬ r_434 = 0 → (post 1))))) (lg, og, tp, vt, iv, nI CC, nI AA, nI N, kd, oA, oB, oC, ln, ip, sa, pc, fl, bh, vl, el, ou, oc, bv, so, bd, fi, fw, se, sw, ts) b))))) (lg, og, tp, vt, iv, nI CC, nI AA, nI N, kd, oA, oB, oC, ln, ip, sa, pc, fl, bh, vl, el, ou, oc, bv, so, bd, fi, fw, se, sw, ts) a → wpX_operandsFit post (lg, og, tp, vt, iv, nI CC, nI AA, nI N, kd, oA, oB, oC, ln, ip, sa, pc, fl, bh, vl, el, ou, oc, bv, so, bd, fi, fw, se, sw, ts) 12 a b d :=
    fun post h => br_f (by decide) (br_f (by decide) (br_f (by decide) (br_f (by decide) (br_f (by decide) (br_f (by decide) (br_f (by decide) (br_f (by decide) (br_f (by decide) (br_f (by decide) (br_f (by decide) (br_f (by decide) (br_f (by decide) (br_f (by decide) (br_t rfl h))))))))))))))
  have ha2 := ha
  have hb2 := hb
  rcases ha2 with ⟨rfl, q, hq, e⟩ | ⟨rfl, ha2⟩
  · have v : vp_in a 32 := by rw [e]; exact vp_in_nI (by omega) (by omega)
    have cl : a.toNatClampNeg = q := by rw [e]; exact nI_clamp (by omega)
    by_cases hk : kd q = 10
    · rcases hb2 with ⟨rfl, q2, hq2, e2⟩ | ⟨rfl, hb2⟩
      · exact ⟨1, Or.inr ⟨rfl, Or.inr (Or.inr (Or.inr (Or.inr (Or.inr (Or.inr (Or.inr (Or.inr (Or.inl ⟨rfl, ⟨q, hq, e, hk⟩, q2, hq2, e2⟩))))))))⟩, fun post h => hX post (by rw [e, e2]; exact zf_ck hN hq hk (br_f (by decide) (zx_e hN hq2 (br_f (by decide) h)))),
          fun post h => zf_205 hN (by decide) ha hb (br_f (by decide) (br_f (by decide) (br_t rfl (br_f (by decide) ⟨v, br_t (by rw [cl]; exact hk) (br_f (by decide) h)⟩))))⟩
      · exact ⟨0, Or.inl rfl, fun post h => hX post (by rw [e]; exact zf_ck hN hq hk (br_f (by decide) (zx_e0 hb2 (br_t rfl h)))),
          fun post h => zf_205 hN (by decide) ha hb (br_f (by decide) (br_f (by decide) (br_t rfl (br_f (by decide) ⟨v, br_t (by rw [cl]; exact hk) (br_t rfl h)⟩))))⟩
    · exact ⟨0, Or.inl rfl, fun post h => hX post (by rw [e]; exact zf_ckn hN hq hk (br_t rfl h)), fun post h => zf_205 hN (by decide) ha hb (br_f (by decide) (br_f (by decide) (br_t rfl (br_f (by decide) ⟨v, br_f (by rw [cl]; exact hk) h⟩))))⟩
  · exact ⟨0, Or.inl rfl, fun post h => hX post (zf_ck0 ha2 (br_t rfl h)), fun post h => zf_205 hN (by decide) ha hb (br_f (by decide) (br_f (by decide) (br_t rfl (br_t rfl h))))⟩
theorem zf_k13 {fa fb : Int32} (hN : N ≤ 32) (ha : ze_cell N a fa) (hb : ze_cell N b fb) :
    ze_F CC AA N kd 13 a b d (fun post => wpX_operandsFit post (lg, og, tp, vt, iv, nI CC, nI AA, nI N, kd, oA, oB, oC, ln, ip, sa, pc, fl, bh, vl, el, ou, oc, bv, so, bd, fi, fw, se, sw, ts) 13 a b d) (fun post => wpY_fits post (nI CC, nI AA, nI N, kd, oA, oB, oC, ln, ip, yb, sa, pc, oc, bv, fl, yv, el, ou) 13 a b d) := by
  have hX : ∀ post : Int32 → Prop, wpX_isEarlier (fun r_467 => (narrow .boolean (.int r_467) = .int r_467 ∧ (post r_467))) (lg, og, tp, vt, iv, nI CC, nI AA, nI N, kd, oA, oB, oC, ln, ip, sa, pc, fl, bh, vl, el, ou, oc, bv, so, bd, fi, fw, se, sw, ts) a → wpX_operandsFit post (lg, og, tp, vt, iv, nI CC, nI AA, nI N, kd, oA, oB, oC, ln, ip, sa, pc, fl, bh, vl, el, ou, oc, bv, so, bd, fi, fw, se, sw, ts) 13 a b d :=
    fun post h => br_f (by decide) (br_f (by decide) (br_f (by decide) (br_f (by decide) (br_f (by decide) (br_f (by decide) (br_f (by decide) (br_f (by decide) (br_f (by decide) (br_f (by decide) (br_f (by decide) (br_f (by decide) (br_f (by decide) (br_f (by decide) (br_f (by decide) (br_t rfl h)))))))))))))))
  have ha2 := ha
  rcases ha2 with ⟨rfl, q, hq, e⟩ | ⟨rfl, ha2⟩
  · exact ⟨1, Or.inr ⟨rfl, Or.inr (Or.inr (Or.inr (Or.inr (Or.inr (Or.inr (Or.inr (Or.inr (Or.inr (Or.inl ⟨rfl, q, hq, e⟩)))))))))⟩, fun post h => hX post (by rw [e]; exact zx_e hN hq ⟨narrow_b1, h⟩),
      fun post h => zf_205 hN (by decide) ha hb (br_f (by decide) (br_f (by decide) (br_f (by decide) (br_t rfl ⟨narrow_b1, h⟩))))⟩
  · exact ⟨0, Or.inl rfl, fun post h => hX post (zx_e0 ha2 ⟨narrow_b0, h⟩), fun post h => zf_205 hN (by decide) ha hb (br_f (by decide) (br_f (by decide) (br_f (by decide) (br_t rfl ⟨narrow_b0, h⟩))))⟩
theorem zf_k14 {fa fb : Int32} (hN : N ≤ 32) (hC : CC ≤ 32) (ha : ze_cell N a fa) (hb : ze_cell N b fb) :
    ze_F CC AA N kd 14 a b d (fun post => wpX_operandsFit post (lg, og, tp, vt, iv, nI CC, nI AA, nI N, kd, oA, oB, oC, ln, ip, sa, pc, fl, bh, vl, el, ou, oc, bv, so, bd, fi, fw, se, sw, ts) 14 a b d) (fun post => wpY_fits post (nI CC, nI AA, nI N, kd, oA, oB, oC, ln, ip, yb, sa, pc, oc, bv, fl, yv, el, ou) 14 a b d) := by
  have hX : ∀ post : Int32 → Prop, wpX_within (fun r_500 => (narrow .boolean (.int r_500) = .int r_500 ∧ (post r_500))) (lg, og, tp, vt, iv, nI CC, nI AA, nI N, kd, oA, oB, oC, ln, ip, sa, pc, fl, bh, vl, el, ou, oc, bv, so, bd, fi, fw, se, sw, ts) a 0 (nI CC) → wpX_operandsFit post (lg, og, tp, vt, iv, nI CC, nI AA, nI N, kd, oA, oB, oC, ln, ip, sa, pc, fl, bh, vl, el, ou, oc, bv, so, bd, fi, fw, se, sw, ts) 14 a b d :=
    fun post h => br_f (by decide) (br_f (by decide) (br_f (by decide) (br_f (by decide) (br_f (by decide) (br_f (by decide) (br_f (by decide) (br_f (by decide) (br_f (by decide) (br_f (by decide) (br_f (by decide) (br_f (by decide) (br_f (by decide) (br_f (by decide) (br_f (by decide) (br_f (by decide) (br_t rfl h))))))))))))))))
  by_cases h1 : a < 0
  · exact ⟨0, Or.inl rfl, fun post h => hX post (zx_w0 (Or.inl h1) ⟨narrow_b0, h⟩), fun post h => zf_205 hN (by decide) ha hb (br_f (by decide) (br_f (by decide) (br_f (by decide) (br_f (by decide) (br_t h1 h)))))⟩
  · by_cases h2 : nI CC < a
    · exact ⟨0, Or.inl rfl, fun post h => hX post (zx_w0 (Or.inr h2) ⟨narrow_b0, h⟩), fun post h => zf_205 hN (by decide) ha hb (br_f (by decide) (br_f (by decide) (br_f (by decide) (br_f (by decide) (br_f h1 (br_t h2 h))))))⟩
    · obtain ⟨j, hj, ej⟩ := nI_of2 (M := nI CC) (n := CC) (qn_n (by omega)) h1 (Int32.not_lt.mp h2)
      exact ⟨1, Or.inr ⟨rfl, Or.inr (Or.inr (Or.inr (Or.inr (Or.inr (Or.inr (Or.inr (Or.inr (Or.inr (Or.inr ⟨rfl, j, hj, ej⟩)))))))))⟩, fun post h => hX post (zx_w (Int32.not_lt.mp h1) (Int32.not_lt.mp h2) ⟨narrow_b1, h⟩),
        fun post h => zf_205 hN (by decide) ha hb (br_f (by decide) (br_f (by decide) (br_f (by decide) (br_f (by decide) (br_f h1 (br_f h2 h))))))⟩
theorem zf_fit (hN : N ≤ 32) (hC : CC ≤ 32) (hA : AA ≤ 3) (h0 : ¬ c < 0) (h14 : c ≤ 14) :
    ze_F CC AA N kd c a b d (fun post => wpX_operandsFit post (lg, og, tp, vt, iv, nI CC, nI AA, nI N, kd, oA, oB, oC, ln, ip, sa, pc, fl, bh, vl, el, ou, oc, bv, so, bd, fi, fw, se, sw, ts) c a b d) (fun post => wpY_fits post (nI CC, nI AA, nI N, kd, oA, oB, oC, ln, ip, yb, sa, pc, oc, bv, fl, yv, el, ou) c a b d) := by
  obtain ⟨fa, ha⟩ := ze_cell_ex hN a
  obtain ⟨fb, hb⟩ := ze_cell_ex hN b
  obtain ⟨j, hj, rfl⟩ := nI_of2 (M := 14) (n := 14) (by decide) h0 h14
  rcases (by omega : j = 0 ∨ j = 1 ∨ j = 2 ∨ j = 3 ∨ j = 4 ∨ j = 5 ∨ j = 6 ∨ j = 7 ∨ j = 8 ∨ j = 9 ∨ j = 10 ∨ j = 11 ∨ j = 12 ∨ j = 13 ∨ j = 14) with
    rfl | rfl | rfl | rfl | rfl | rfl | rfl | rfl | rfl | rfl | rfl | rfl | rfl | rfl | rfl
  · exact ze_k0 hN ha hb
  · exact ze_k1 hN hA ha hb
  · exact ze_k2 hN ha hb
  · exact ze_k34 (z := 3) hN (Or.inl rfl) ha hb
  · exact ze_k34 (z := 4) hN (Or.inr rfl) ha hb
  · exact ze_k5 hN hC ha hb
  · exact ze_k69 (z := 6) hN hC (Or.inl rfl) ha hb
  · exact ze_k69 (z := 7) hN hC (Or.inr (Or.inl rfl)) ha hb
  · exact ze_k69 (z := 8) hN hC (Or.inr (Or.inr (Or.inl rfl))) ha hb
  · exact ze_k69 (z := 9) hN hC (Or.inr (Or.inr (Or.inr rfl))) ha hb
  · exact zf_k10 hN hA ha hb
  · exact zf_k11 hN ha hb
  · exact zf_k12 hN ha hb
  · exact zf_k13 hN ha hb
  · exact zf_k14 hN hC ha hb
end ZF
end
section
section ZG
/-! agree: loops -/
variable {lg og tp vt iv ce ac fn : Int32} {kd oA oB oC ln ip sa pc fl bh vl el ou oc bv so bd fi fw se sw ts : Nat → Int32}
variable {N Q : Nat} {yb yv : Nat → Int32}
theorem zg_v {N p : Nat} {h x y h2 x2 y2 : Int32} (a : zz_v N p h x y) (b : zz_v N p h2 x2 y2) : y = y2 ↔ (h = h2 ∧ (¬ h = 0 → x = x2)) := by
  rcases a with ⟨a1, a2⟩ | ⟨a1, a2, a3, a4, a5⟩ <;> rcases b with ⟨b1, b2⟩ | ⟨b1, b2, b3, b4, b5⟩
  · rw [a1, b1, a2, b2]; exact ⟨fun _ => ⟨rfl, fun h => absurd rfl h⟩, fun _ => rfl⟩
  · rw [a1, b1, a2, b3]
    refine ⟨fun e => ?_, fun e => absurd e.1 (by decide)⟩
    rw [← e, qn_m1000] at b4; omega
  · rw [a1, b1, b2, a3]
    refine ⟨fun e => ?_, fun e => absurd e.1 (by decide)⟩
    rw [e, qn_m1000] at a4; omega
  · rw [a1, b1, a3, b3]
    exact ⟨fun e => ⟨rfl, fun _ => e⟩, fun e => e.2 (by decide)⟩
theorem zg_vals {post : Int32 → Prop} (hN : N ≤ 32) (hV : zz_V N bh vl yv) (hT : (∀ i, i < N → yv i = yv (32 + i)) → post 1) (hF : (¬ ∀ i, i < N → yv i = yv (32 + i)) → post 0) :
    ∀ d i : Nat, i + d = N → (∀ j, j < i → yv j = yv (32 + j)) → wX_sameValues_2 post lg og tp vt iv ce ac (nI N) kd oA oB oC ln ip sa pc fl bh vl el ou oc bv so bd fi fw se sw ts (d + 1) (nI i) := by
  intro d
  induction d with
  | zero =>
    intro i hi h
    have e : i = N := by omega
    subst e
    exact br_t (nI_le (Nat.le_refl i) (by omega)) (hT h)
  | succ d ih =>
    intro i hi h
    have v1 : vp_in (nI i) 64 := vp_in_nI (by omega) (by omega)
    have v2 : vp_in (nI (32 + i)) 64 := vp_in_nI (by omega) (by omega)
    have a1 := hV 0 i (by omega) (by omega)
    have a2 := hV 1 i (by omega) (by omega)
    rw [show 32 * 0 + i = i from by omega] at a1
    rw [show 32 * 1 + i = 32 + i from by omega] at a2
    have hv := zg_v a1 a2
    have next : yv i = yv (32 + i) → wX_sameValues_2 post lg og tp vt iv ce ac (nI N) kd oA oB oC ln ip sa pc fl bh vl el ou oc bv so bd fi fw se sw ts (d + 1) (nI (i + 1)) := fun e => ih (i + 1) (by omega) (fun j hj => by
      by_cases ej : j = i
      · subst ej; exact e
      · exact h j (by omega))
    have stop : ¬ yv i = yv (32 + i) → post 0 := fun e => hF (fun hall => e (hall i (by omega)))
    refine br_f (nI_ge (by omega) (by omega)) ?_
    rw [show 32 + nI i = nI (32 + i) from nI_add 32 i, nI_clamp (n := i) (by omega), nI_clamp (n := 32 + i) (by omega)]
    refine ⟨v1, v2, br_c (fun e => ⟨v1, br_c (fun z => nm_r (nI_1 i) (next (hv.mpr ⟨e, fun hz => absurd z hz⟩))) (fun z => ⟨v1, v2, br_c (fun e2 => nm_r (nI_1 i) (next (hv.mpr ⟨e, fun _ => e2⟩))) (fun e2 => stop (fun e3 => e2 ((hv.mp e3).2 z)))⟩)⟩) (fun e => stop (fun e3 => e (hv.mp e3).1))⟩
theorem zg_els {post : Int32 → Prop} (hT : (∀ i, i < 48 → el i = el (48 + i)) → post 1) (hF : (¬ ∀ i, i < 48 → el i = el (48 + i)) → post 0) :
    ∀ d i : Nat, i + d = 48 → (∀ j, j < i → el j = el (48 + j)) → wX_sameElements_2 post lg og tp vt iv ce ac fn kd oA oB oC ln ip sa pc fl bh vl el ou oc bv so bd fi fw se sw ts (d + 1) (nI i) := by
  intro d
  induction d with
  | zero =>
    intro i hi h
    have e : i = 48 := by omega
    subst e
    exact br_t (nI_le (a := 48) (b := 48) (by omega) (by omega)) (hT h)
  | succ d ih =>
    intro i hi h
    have v1 : vp_in (nI i) 96 := vp_in_nI (by omega) (by omega)
    have v2 : vp_in (nI (48 + i)) 96 := vp_in_nI (by omega) (by omega)
    refine br_f (nI_ge (b := 48) (by omega) (by omega)) ?_
    rw [show 48 + nI i = nI (48 + i) from nI_add 48 i, nI_clamp (n := i) (by omega), nI_clamp (n := 48 + i) (by omega)]
    exact ⟨v1, v2, br_c (fun e => nm_r (nI_1 i) (ih (i + 1) (by omega) (fun j hj => by
      by_cases ej : j = i
      · subst ej; exact e
      · exact h j (by omega)))) (fun e => hF (fun hall => e (hall i (by omega))))⟩
theorem zg_outs {post : Int32 → Prop} (hQ : Q ≤ 16) (hq : oc 0 = nI Q) (hT : (∀ i, i < Q → ou i = ou (16 + i)) → post 1) (hF : (¬ ∀ i, i < Q → ou i = ou (16 + i)) → post 0) :
    ∀ d i : Nat, i + d = Q → (∀ j, j < i → ou j = ou (16 + j)) → wX_sameOutputs_19 post lg og tp vt iv ce ac fn kd oA oB oC ln ip sa pc fl bh vl el ou oc bv so bd fi fw se sw ts (d + 1) (nI i) := by
  intro d
  induction d with
  | zero =>
    intro i hi h
    have e : i = Q := by omega
    subst e
    exact br_t (by rw [hq]; exact nI_le (Nat.le_refl i) (by omega)) (hT h)
  | succ d ih =>
    intro i hi h
    have v1 : vp_in (nI i) 32 := vp_in_nI (by omega) (by omega)
    have v2 : vp_in (nI (16 + i)) 32 := vp_in_nI (by omega) (by omega)
    refine br_f (by rw [hq]; exact nI_ge (by omega) (by omega)) ?_
    rw [show 16 + nI i = nI (16 + i) from nI_add 16 i, nI_clamp (n := i) (by omega), nI_clamp (n := 16 + i) (by omega)]
    exact ⟨v1, v2, br_c (fun e => nm_r (nI_1 i) (ih (i + 1) (by omega) (fun j hj => by
      by_cases ej : j = i
      · subst ej; exact e
      · exact h j (by omega)))) (fun e => hF (fun hall => e (hall i (by omega))))⟩
theorem zg_y134 {post : Int32 → Prop} (hQ : Q ≤ 16) (hq : oc 0 = nI Q) (hT : (∀ i, i < Q → ou i = ou (16 + i)) → post 1) (hF : (¬ ∀ i, i < Q → ou i = ou (16 + i)) → post 0) :
    ∀ d i : Nat, i + d = 16 → (∀ j, j < i → j < Q → ou j = ou (16 + j)) → wY_agree_134 post ce ac fn kd oA oB oC ln ip yb sa pc oc bv fl yv el ou (d + 1) (nI i) := by
  intro d
  induction d with
  | zero =>
    intro i hi h
    have e : i = 16 := by omega
    subst e
    exact br_t (nI_le (a := 16) (b := 16) (by omega) (by omega)) (hT (fun j hj => h j (by omega) hj))
  | succ d ih =>
    intro i hi h
    have v1 : vp_in (nI i) 32 := vp_in_nI (by omega) (by omega)
    have v2 : vp_in (nI (16 + i)) 32 := vp_in_nI (by omega) (by omega)
    refine br_f (nI_ge (b := 16) (by omega) (by omega)) ?_
    rw [hq, show 16 + nI i = nI (16 + i) from nI_add 16 i, nI_clamp (n := i) (by omega), nI_clamp (n := 16 + i) (by omega)]
    by_cases hiq : Q ≤ i
    · exact br_t (nI_le hiq (by omega)) (nm_r (nI_1 i) (ih (i + 1) (by omega) (fun j hj hjq => h j (by omega) hjq)))
    · exact br_f (nI_ge (by omega) (by omega)) ⟨v1, v2, br_c (fun e => nm_r (nI_1 i) (ih (i + 1) (by omega) (fun j hj hjq => by
        by_cases ej : j = i
        · subst ej; exact e
        · exact h j (by omega) hjq))) (fun e => hF (fun hall => e (hall i (by omega))))⟩
theorem zg_y100 {post : Int32 → Prop} (hT : (∀ i, i < 48 → el i = el (48 + i)) → ∃ n134 : Nat, wY_agree_134 post ce ac fn kd oA oB oC ln ip yb sa pc oc bv fl yv el ou n134 0) (hF : (¬ ∀ i, i < 48 → el i = el (48 + i)) → post 0) :
    ∀ d i : Nat, i + d = 48 → (∀ j, j < i → el j = el (48 + j)) → wY_agree_100 post ce ac fn kd oA oB oC ln ip yb sa pc oc bv fl yv el ou (d + 1) (nI i) := by
  intro d
  induction d with
  | zero =>
    intro i hi h
    have e : i = 48 := by omega
    subst e
    exact br_t (nI_le (a := 48) (b := 48) (by omega) (by omega)) (hT h)
  | succ d ih =>
    intro i hi h
    have v1 : vp_in (nI i) 96 := vp_in_nI (by omega) (by omega)
    have v2 : vp_in (nI (48 + i)) 96 := vp_in_nI (by omega) (by omega)
    refine br_f (nI_ge (b := 48) (by omega) (by omega)) ?_
    rw [show 48 + nI i = nI (48 + i) from nI_add 48 i, nI_clamp (n := i) (by omega), nI_clamp (n := 48 + i) (by omega)]
    exact ⟨v1, v2, br_c (fun e => nm_r (nI_1 i) (ih (i + 1) (by omega) (fun j hj => by
      by_cases ej : j = i
      · subst ej; exact e
      · exact h j (by omega)))) (fun e => hF (fun hall => e (hall i (by omega))))⟩
theorem zg_y66 {post : Int32 → Prop} (hT : (∀ i, i < 32 → yv i = yv (32 + i)) → ∃ n100 : Nat, wY_agree_100 post ce ac fn kd oA oB oC ln ip yb sa pc oc bv fl yv el ou n100 0) (hF : (¬ ∀ i, i < 32 → yv i = yv (32 + i)) → post 0) :
    ∀ d i : Nat, i + d = 32 → (∀ j, j < i → yv j = yv (32 + j)) → wY_agree_66 post ce ac fn kd oA oB oC ln ip yb sa pc oc bv fl yv el ou (d + 1) (nI i) := by
  intro d
  induction d with
  | zero =>
    intro i hi h
    have e : i = 32 := by omega
    subst e
    exact br_t (nI_le (a := 32) (b := 32) (by omega) (by omega)) (hT h)
  | succ d ih =>
    intro i hi h
    have v1 : vp_in (nI i) 64 := vp_in_nI (by omega) (by omega)
    have v2 : vp_in (nI (32 + i)) 64 := vp_in_nI (by omega) (by omega)
    refine br_f (nI_ge (b := 32) (by omega) (by omega)) ?_
    rw [show 32 + nI i = nI (32 + i) from nI_add 32 i, nI_clamp (n := i) (by omega), nI_clamp (n := 32 + i) (by omega)]
    exact ⟨v1, v2, br_c (fun e => nm_r (nI_1 i) (ih (i + 1) (by omega) (fun j hj => by
      by_cases ej : j = i
      · subst ej; exact e
      · exact h j (by omega)))) (fun e => hF (fun hall => e (hall i (by omega))))⟩
def zg_all (Q : Nat) (sa pc fl oc el ou yv : Nat → Int32) : Prop :=
  sa 0 = sa 1 ∧ pc 0 = pc 1 ∧ fl 0 = fl 1 ∧ oc 0 = oc 1 ∧ (∀ i, i < 32 → yv i = yv (32 + i)) ∧ (∀ i, i < 48 → el i = el (48 + i)) ∧ ∀ i, i < Q → ou i = ou (16 + i)
theorem zg_x (hN : N ≤ 32) (hV : zz_V N bh vl yv) (hQ : Q ≤ 16) (hq : oc 0 = nI Q) {post : Int32 → Prop} (h1 : zg_all Q sa pc fl oc el ou yv → post 1) (h0 : ¬ zg_all Q sa pc fl oc el ou yv → post 0) :
    wpX_agree post (lg, og, tp, vt, iv, ce, ac, nI N, kd, oA, oB, oC, ln, ip, sa, pc, fl, bh, vl, el, ou, oc, bv, so, bd, fi, fw, se, sw, ts) := by
  have hN32 : (∀ i, i < N → yv i = yv (32 + i)) → ∀ i, i < 32 → yv i = yv (32 + i) := by
    intro h i hi
    by_cases hin : i < N
    · exact h i hin
    · have a1 := hV 0 i (by omega) (by omega)
      have a2 := hV 1 i (by omega) (by omega)
      rw [show 32 * 0 + i = i from by omega] at a1
      rw [show 32 * 1 + i = 32 + i from by omega] at a2
      have b1 : yv i = -1000 := a1.elim And.right (fun z => absurd z.2.1 hin)
      have b2 : yv (32 + i) = -1000 := a2.elim And.right (fun z => absurd z.2.1 hin)
      rw [b1, b2]
  refine br_c (fun a1 => br_c (fun a2 => br_c (fun a3 => ?_) (fun n => h0 (fun h => n h.2.2.1))) (fun n => h0 (fun h => n h.2.1))) (fun n => h0 (fun h => n h.1))
  refine Exists.intro (N + 1) (zg_vals hN hV (fun hv => br_f (by decide) ?_) (fun n => br_t rfl (h0 (fun h => n (fun i hi => h.2.2.2.2.1 i (by omega))))) N 0 (by omega) (fun j hj => by omega))
  refine Exists.intro 49 (zg_els (fun he => br_f (by decide) ?_) (fun n => br_t rfl (h0 (fun h => n h.2.2.2.2.2.1))) 48 0 (by omega) (fun j hj => by omega))
  refine br_c (fun a4 => ?_) (fun n => br_t rfl (h0 (fun h => n h.2.2.2.1)))
  exact Exists.intro (Q + 1) (zg_outs hQ hq (fun ho => br_f (by decide) (h1 ⟨a1, a2, a3, a4, hN32 hv, he, ho⟩)) (fun n => br_t rfl (h0 (fun h => n h.2.2.2.2.2.2))) Q 0 (by omega) (fun j hj => by omega))
theorem zg_y (hQ : Q ≤ 16) (hq : oc 0 = nI Q) {post : Int32 → Prop} (h1 : zg_all Q sa pc fl oc el ou yv → post 1) (h0 : ¬ zg_all Q sa pc fl oc el ou yv → post 0) :
    wpY_agree post (ce, ac, fn, kd, oA, oB, oC, ln, ip, yb, sa, pc, oc, bv, fl, yv, el, ou) := by
  refine br_c (fun a1 => br_c (fun a2 => br_c (fun a3 => br_c (fun a4 => ?_) (fun n => h0 (fun h => n h.2.2.2.1))) (fun n => h0 (fun h => n h.2.2.1))) (fun n => h0 (fun h => n h.2.1))) (fun n => h0 (fun h => n h.1))
  refine Exists.intro 33 (zg_y66 (fun hv => Exists.intro 49 (zg_y100 (fun he => Exists.intro 17 (zg_y134 hQ hq (fun ho => h1 ⟨a1, a2, a3, a4, hv, he, ho⟩) (fun n => h0 (fun h => n h.2.2.2.2.2.2)) 16 0 (by omega) (fun j hj => by omega)))
    (fun n => h0 (fun h => n h.2.2.2.2.2.1)) 48 0 (by omega) (fun j hj => by omega))) (fun n => h0 (fun h => n h.2.2.2.2.1)) 32 0 (by omega) (fun j hj => by omega))
end ZG
theorem i_vc_agree {k : Nat} {u : SX} {v : SY} (I : i_Rel k u v) (hk : k + 5 ≤ 2562) : wpX_agree (fun r => wpY_agree (fun r' => r' = r ∧ i_Rel (k + 5) u v) v) u := by
  refine zz_el (P := fun u v => wpX_agree (fun r => wpY_agree (fun r' => r' = r ∧ i_Rel (k + 5) u v) v) u) ?_ I
  intro lg og tp vt iv CC AA N kd oA oB oC ln ip sa pc fl bh vl el ou oc bv so bd fi fw se sw ts yb yv R
  have R2 := R
  obtain ⟨⟨c1, c2, c3, c4, c5, c6⟩, hS, hM, hV, hO⟩ := R
  obtain ⟨_, _, Q, hQ, hq⟩ := hM.1 0 (by omega)
  exact zg_x (by omega) hV hQ hq (fun h => zg_y hQ hq (fun _ => ⟨rfl, zz_in R2⟩) (fun n => absurd h n)) (fun n => zg_y hQ hq (fun h => absurd h n) (fun _ => ⟨rfl, zz_in R2⟩))
end
section
section ZH
/-! the constructor, the settings, the readers -/
theorem zh_cl (x : Int32) {lo hi : Nat} (h : lo ≤ hi) (hh : hi < 2 ^ 31) :
    ∃ C, lo ≤ C ∧ C ≤ hi ∧ ∀ P : Int32 → Prop, P (nI C) → ((nI lo ≤ x → ((x ≤ nI hi → P x) ∧ (¬ x ≤ nI hi → P (nI hi)))) ∧ (¬ nI lo ≤ x → P (nI lo))) := by
  by_cases h1 : nI lo ≤ x
  · by_cases h2 : x ≤ nI hi
    · have h0 : ¬ x < 0 := by
        rw [qn_lt, qn_0]
        rw [qn_le, qn_n (by omega)] at h1
        omega
      obtain ⟨j, hj, rfl⟩ := nI_of h0
      rw [nI_leI (by omega) (by omega)] at h1 h2
      exact ⟨j, h1, h2, fun P hP => br_t (nI_le h1 hj) (br_t (nI_le h2 hh) hP)⟩
    · exact ⟨hi, h, Nat.le_refl _, fun P hP => br_t h1 (br_f h2 hP)⟩
  · exact ⟨lo, Nat.le_refl _, h, fun P hP => br_f h1 hP⟩
variable {lg og tp vt iv ce ac fn : Int32} {kd oA oB oC ln ip sa pc fl bh vl el ou oc bv so bd fi fw se sw ts : Nat → Int32}
theorem zh_x {x : Int32} {lo hi C : Nat} (hC : ∀ P : Int32 → Prop, P (nI C) → ((nI lo ≤ x → ((x ≤ nI hi → P x) ∧ (¬ x ≤ nI hi → P (nI hi)))) ∧ (¬ nI lo ≤ x → P (nI lo)))) {post : Int32 → Prop} (h : post (nI C)) :
    wpX_clamp post (lg, og, tp, vt, iv, ce, ac, fn, kd, oA, oB, oC, ln, ip, sa, pc, fl, bh, vl, el, ou, oc, bv, so, bd, fi, fw, se, sw, ts) x (nI lo) (nI hi) := hC post h
variable {yb yv : Nat → Int32}
theorem zh_y141 {x z : Int32} {C : Nat} (hC : ∀ P : Int32 → Prop, P (nI C) → ((nI 1 ≤ x → ((x ≤ nI 3 → P x) ∧ (¬ x ≤ nI 3 → P (nI 3)))) ∧ (¬ nI 1 ≤ x → P (nI 1)))) {post : SY → Prop}
    (h : ∃ n169 : Nat, wY_init_169 post z (nI C) fn n169 0 kd oA oB oC ln ip yb sa pc oc bv fl yv el ou) : wY_init_141 post x z ce ac fn kd oA oB oC ln ip yb sa pc oc bv fl yv el ou := hC (fun y => ∃ n169 : Nat, wY_init_169 post z y fn n169 0 kd oA oB oC ln ip yb sa pc oc bv fl yv el ou) h
theorem zh_yi {x y : Int32} {C : Nat} (hC : ∀ P : Int32 → Prop, P (nI C) → ((nI 8 ≤ x → ((x ≤ nI 32 → P x) ∧ (¬ x ≤ nI 32 → P (nI 32)))) ∧ (¬ nI 8 ≤ x → P (nI 8)))) {post : SY → Prop}
    (h : wY_init_141 post y (nI C) 0 0 0 (fun _ => 0) (fun _ => 0) (fun _ => 0) (fun _ => 0) (fun _ => 0) (fun _ => 0) (fun _ => 0) (fun _ => 0) (fun _ => 0) (fun _ => 0) (fun _ => 0) (fun _ => 0) (fun _ => 0) (fun _ => 0) (fun _ => 0)) : wpY_init post x y :=
  hC (fun z => wY_init_141 post y z 0 0 0 (fun _ => 0) (fun _ => 0) (fun _ => 0) (fun _ => 0) (fun _ => 0) (fun _ => 0) (fun _ => 0) (fun _ => 0) (fun _ => 0) (fun _ => 0) (fun _ => 0) (fun _ => 0) (fun _ => 0) (fun _ => 0) (fun _ => 0)) h
end ZH
theorem i_vc0 (k0 : Int32) (k1 : Int32) : wpX_init (fun u => wpY_init (fun v => i_Rel 2 u v) k0 k1) k0 k1 := by
  obtain ⟨CC, c1, c2, hC⟩ := zh_cl k0 (lo := 8) (hi := 32) (by omega) (by omega)
  obtain ⟨AA, a1, a2, hA⟩ := zh_cl k1 (lo := 1) (hi := 3) (by omega) (by omega)
  refine zh_x hC (zh_x hA (Exists.intro 4 ?_))
  have hR : i_Rel 2 (3, 32, 33, 34, 100000, nI CC, nI AA, nI 0, (fun _ => 0), (fun _ => 0), (fun _ => 0), (fun _ => 0), zr_z 3 4 (fun _ => 0), (fun _ => 0), (fun _ => 0), (fun _ => 0), (fun _ => 0), (fun _ => 0), (fun _ => 0), (fun _ => 0), (fun _ => 0), (fun _ => 0), (fun _ => 0), (fun _ => 0), (fun _ => 0), (fun _ => 0), (fun _ => 0), (fun _ => 0), (fun _ => 0), (fun _ => 0))
      (nI CC, nI AA, nI 0, (fun _ => 0), (fun _ => 0), (fun _ => 0), (fun _ => 0), zr_z 3 4 (fun _ => 0), (fun _ => 0), (fun _ => 0), zr_z 2 0 (fun _ => 0), zr_z 2 0 (fun _ => 0), zr_z 2 0 (fun _ => 0), zr_z 2 0 (fun _ => 0), zr_z 2 0 (fun _ => 0), zr_z 64 (-1000) (fun _ => 0), zr_z 96 0 (fun _ => 0), (fun _ => 0)) := by
    rw [zr_zero 2, zr_zero 96]
    refine zz_in ⟨⟨c1, c2, a1, a2, by omega, fun p hp => by omega⟩, ⟨fun k hk => ?_, fun k hk => ?_⟩, ⟨fun m hm => ⟨⟨0, by omega, rfl⟩, Or.inl rfl, ⟨0, by omega, rfl⟩⟩, fun i hi => ?_⟩, fun m p hm hp => ?_, fun g hg h => absurd rfl h⟩
    · rw [zr_in hk]; decide
    · rw [qn_0]; omega
    · rw [qn_0]; omega
    · rw [zr_in (by omega)]; exact Or.inl ⟨rfl, rfl⟩
  have h2 := zr_yi (post := fun v => i_Rel 2 (3, 32, 33, 34, 100000, nI CC, nI AA, nI 0, (fun _ => 0), (fun _ => 0), (fun _ => 0), (fun _ => 0), zr_z 3 4 (fun _ => 0), (fun _ => 0), (fun _ => 0), (fun _ => 0), (fun _ => 0), (fun _ => 0), (fun _ => 0), (fun _ => 0), (fun _ => 0), (fun _ => 0), (fun _ => 0), (fun _ => 0), (fun _ => 0), (fun _ => 0), (fun _ => 0), (fun _ => 0), (fun _ => 0), (fun _ => 0)) v) hR 3 0 (by omega)
  rw [zr_0] at h2
  have h3 := zr_xi (post := fun u => wpY_init (fun v => i_Rel 2 u v) k0 k1) (lg := 3) (og := 32) (tp := 33) (vt := 34) (iv := 100000) (ce := nI CC) (ac := nI AA) (fn := 0) (kd := fun _ => 0) (oA := fun _ => 0) (oB := fun _ => 0) (oC := fun _ => 0) (ln := fun _ => 0) (ip := fun _ => 0) (sa := fun _ => 0) (pc := fun _ => 0) (fl := fun _ => 0) (bh := fun _ => 0) (vl := fun _ => 0) (el := fun _ => 0) (ou := fun _ => 0) (oc := fun _ => 0) (bv := fun _ => 0) (so := fun _ => 0) (bd := fun _ => 0) (fi := fun _ => 0) (fw := fun _ => 0) (se := fun _ => 0) (sw := fun _ => 0) (ts := fun _ => 0)
    (zh_yi hC (zh_y141 hA (Exists.intro 4 h2))) 3 0 (by omega)
  rw [zr_0] at h3
  exact h3
section ZI
variable {CC AA N : Nat} {kd oA oB oC ln ip pc fl bh vl el oc so bd yv : Nat → Int32}
end ZI
theorem i_vc_undo {k : Nat} {u : SX} {v : SY} (I : i_Rel k u v) (hk : k + 5 ≤ 2562) : wpX_undo (fun r u' => wpY_undo (fun r' v' => r' = r ∧ i_Rel (k + 5) u' v') v) u := by
  refine zz_el (P := fun u v => wpX_undo (fun r u' => wpY_undo (fun r' v' => r' = r ∧ i_Rel (k + 5) u' v') v) u) ?_ I
  intro lg og tp vt iv CC AA N kd oA oB oC ln ip sa pc fl bh vl el ou oc bv so bd fi fw se sw ts yb yv R
  have R2 := R
  obtain ⟨⟨c1, c2, c3, c4, c5, c6⟩, hS, hM, hV, hO⟩ := R
  by_cases h0 : N = 0
  · subst h0
    exact br_t rfl (br_t rfl ⟨rfl, zz_in R2⟩)
  · have hn : ¬ nI N = 0 := nI_ne0 (by omega) (by omega)
    have e : nI N - 1 = nI (N - 1) := by
      obtain ⟨m, rfl⟩ : ∃ m, N = m + 1 := ⟨N - 1, by omega⟩
      exact nI_pred m
    exact br_f hn (nm_r e (zr_cc (br_f hn (nm_r e (zr_y ⟨rfl, zz_in ⟨⟨c1, c2, c3, c4, by omega, fun p hp => c6 p (by omega)⟩, hS, zz_M0, zz_V0, zz_ok0⟩⟩)))))
theorem i_vc_setLength {k : Nat} {u : SX} {v : SY} (I : i_Rel k u v) (hk : k + 5 ≤ 2562) (v1 : Int32) (v2 : Int32) : wpX_setLength (fun r u' => wpY_setLength (fun r' v' => r' = r ∧ i_Rel (k + 5) u' v') v v1 v2) u v1 v2 := by
  refine zz_el (P := fun u v => wpX_setLength (fun r u' => wpY_setLength (fun r' v' => r' = r ∧ i_Rel (k + 5) u' v') v v1 v2) u v1 v2) ?_ I
  intro lg og tp vt iv CC AA N kd oA oB oC ln ip sa pc fl bh vl el ou oc bv so bd fi fw se sw ts yb yv R
  unfold wpX_setLength
  dsimp only
  have R2 := R
  obtain ⟨⟨c1, c2, c3, c4, c5, c6⟩, hS, hM, hV, hO⟩ := R
  rcases pk_ix v1 (n := AA) (by omega) with h1 | h1 | ⟨q, hq, h1⟩
  · exact zx_a0 (Or.inl h1) (br_t rfl (br_t h1 ⟨rfl, zz_in R2⟩))
  · exact zx_a0 (Or.inr h1) (br_t rfl (br_c (fun _ => ⟨rfl, zz_in R2⟩) (fun _ => br_t h1 ⟨rfl, zz_in R2⟩)))
  · have n0 : ¬ v1 < 0 := by rw [h1]; exact nI_pos (by omega)
    have nA : ¬ nI AA ≤ v1 := by rw [h1]; exact nI_ge hq (by omega)
    have v : vp_in v1 3 := by rw [h1]; exact vp_in_nI (by omega) (by omega)
    have cl : v1.toNatClampNeg = q := by rw [h1]; exact nI_clamp (by omega)
    by_cases h2 : v2 < 0
    · refine br_f n0 (br_f nA (br_f (by decide) (zx_w0 (Or.inl h2) (br_t rfl ?_))))
      exact br_f n0 (br_f nA (br_t h2 ⟨rfl, zz_in R2⟩))
    · by_cases h3 : 16 < v2
      · refine br_f n0 (br_f nA (br_f (by decide) (zx_w0 (Or.inr h3) (br_t rfl ?_))))
        exact br_f n0 (br_f nA (br_f h2 (br_f (Int32.not_le.mpr h3) ⟨rfl, zz_in R2⟩)))
      · have hS2 : zz_S (upd ln q v2) ip := by
          refine ⟨fun j hj => ?_, hS.2⟩
          by_cases e : j = q
          · subst e
            rw [pk_us]
            rw [qn_lt, qn_0] at h2
            rw [qn_lt, show (16 : Int32).toInt = 16 from by decide] at h3
            omega
          · rw [pk_un e]; exact hS.1 j hj
        refine br_f n0 (br_f nA (br_f (by decide) (zx_w (Int32.not_lt.mp h2) (Int32.not_lt.mp h3) (br_f (by decide) ⟨v, nm_r (e' := upd ln q v2) (by rw [cl]) (zr_x ?_)⟩))))
        exact br_f n0 (br_f nA (br_f h2 (br_t (Int32.not_lt.mp h3) ⟨v, nm_r (e' := upd ln q v2) (by rw [cl]) (zr_y ⟨rfl, zz_in ⟨⟨c1, c2, c3, c4, c5, c6⟩, hS2, zz_M0, zz_V0, hO⟩⟩)⟩)))
theorem i_vc_setInput {k : Nat} {u : SX} {v : SY} (I : i_Rel k u v) (hk : k + 5 ≤ 2562) (v1 : Int32) (v2 : Int32) : wpX_setInput (fun r u' => wpY_setInput (fun r' v' => r' = r ∧ i_Rel (k + 5) u' v') v v1 v2) u v1 v2 := by
  refine zz_el (P := fun u v => wpX_setInput (fun r u' => wpY_setInput (fun r' v' => r' = r ∧ i_Rel (k + 5) u' v') v v1 v2) u v1 v2) ?_ I
  intro lg og tp vt iv CC AA N kd oA oB oC ln ip sa pc fl bh vl el ou oc bv so bd fi fw se sw ts yb yv R
  unfold wpX_setInput
  dsimp only
  have R2 := R
  obtain ⟨⟨c1, c2, c3, c4, c5, c6⟩, hS, hM, hV, hO⟩ := R
  by_cases h0 : v1 < 0
  · exact zx_w0 (Or.inl h0) (br_t rfl (br_t h0 ⟨rfl, zz_in R2⟩))
  · by_cases h1 : 3 < v1
    · exact zx_w0 (Or.inr h1) (br_t rfl (br_f h0 (br_t h1 ⟨rfl, zz_in R2⟩)))
    · obtain ⟨q, hq, e1⟩ := nI_of2 (M := 3) (n := 3) (by decide) h0 (Int32.not_lt.mp h1)
      have v : vp_in v1 4 := by rw [e1]; exact vp_in_nI (by omega) (by omega)
      have cl : v1.toNatClampNeg = q := by rw [e1]; exact nI_clamp (by omega)
      refine zx_w (Int32.not_lt.mp h0) (Int32.not_lt.mp h1) (br_f (by decide) ?_)
      by_cases h2 : v2 < -128
      · exact zx_w0 (Or.inl h2) (br_t rfl (br_f h0 (br_f h1 (br_t h2 ⟨rfl, zz_in R2⟩))))
      · by_cases h3 : 127 < v2
        · exact zx_w0 (Or.inr h3) (br_t rfl (br_f h0 (br_f h1 (br_f h2 (br_f (Int32.not_le.mpr h3) ⟨rfl, zz_in R2⟩)))))
        · have hS2 : zz_S ln (upd ip q v2) := by
            refine ⟨hS.1, fun j hj => ?_⟩
            by_cases e : j = q
            · subst e
              rw [pk_us]
              rw [qn_lt, qn_m128] at h2
              rw [qn_lt, qn_127] at h3
              omega
            · rw [pk_un e]; exact hS.2 j hj
          refine zx_w (Int32.not_lt.mp h2) (Int32.not_lt.mp h3) (br_f (by decide) ⟨v, nm_r (e' := upd ip q v2) (by rw [cl]) (zr_x ?_)⟩)
          exact br_f h0 (br_f h1 (br_f h2 (br_t (Int32.not_lt.mp h3) ⟨v, nm_r (e' := upd ip q v2) (by rw [cl]) (zr_y ⟨rfl, zz_in ⟨⟨c1, c2, c3, c4, c5, c6⟩, hS2, zz_M0, zz_V0, hO⟩⟩)⟩)))
theorem i_vc_start {k : Nat} {u : SX} {v : SY} (I : i_Rel k u v) (hk : k + 5 ≤ 2562) : wpX_start (fun r u' => wpY_start (fun r' v' => r' = r ∧ i_Rel (k + 5) u' v') v) u := by
  refine zz_el (P := fun u v => wpX_start (fun r u' => wpY_start (fun r' v' => r' = r ∧ i_Rel (k + 5) u' v') v) u) ?_ I
  intro lg og tp vt iv CC AA N kd oA oB oC ln ip sa pc fl bh vl el ou oc bv so bd fi fw se sw ts yb yv R
  have R2 := R
  obtain ⟨⟨c1, c2, c3, c4, c5, c6⟩, hS, hM, hV, hO⟩ := R
  by_cases h0 : N = 0
  · subst h0
    exact br_t rfl (br_t rfl ⟨rfl, zz_in R2⟩)
  · have hn : ¬ nI N = 0 := nI_ne0 (by omega) (by omega)
    exact br_f hn (zr_x (nm_e (nm_e (br_f hn (zr_y (nm_e (nm_e ⟨rfl, zz_in ⟨⟨c1, c2, c3, c4, c5, c6⟩, hS, zz_M0, zz_V0, hO⟩⟩)))))))
theorem i_vc_status {k : Nat} {u : SX} {v : SY} (I : i_Rel k u v) (hk : k + 5 ≤ 2562) (v1 : Int32) : wpX_status (fun r => wpY_status (fun r' => r' = r ∧ i_Rel (k + 5) u v) v v1) u v1 := by
  refine zz_el (P := fun u v => wpX_status (fun r => wpY_status (fun r' => r' = r ∧ i_Rel (k + 5) u v) v v1) u v1) ?_ I
  intro lg og tp vt iv CC AA N kd oA oB oC ln ip sa pc fl bh vl el ou oc bv so bd fi fw se sw ts yb yv R
  unfold wpX_status
  dsimp only
  rcases zn_m v1 with ⟨m, hm, rfl⟩ | ⟨h0, h1⟩
  · have w : vp_in (nI m) 2 := vp_in_nI hm (by omega)
    exact zx_m (zn_c hm) (br_f (by decide) ⟨w, zn_y (zn_c hm) ⟨w, rfl, zz_in R⟩⟩)
  · exact zx_m0 h0 h1 (br_t rfl (zn_y0 h0 h1 ⟨rfl, zz_in R⟩))
theorem i_vc_place {k : Nat} {u : SX} {v : SY} (I : i_Rel k u v) (hk : k + 5 ≤ 2562) (v1 : Int32) : wpX_place (fun r => wpY_place (fun r' => r' = r ∧ i_Rel (k + 5) u v) v v1) u v1 := by
  refine zz_el (P := fun u v => wpX_place (fun r => wpY_place (fun r' => r' = r ∧ i_Rel (k + 5) u v) v v1) u v1) ?_ I
  intro lg og tp vt iv CC AA N kd oA oB oC ln ip sa pc fl bh vl el ou oc bv so bd fi fw se sw ts yb yv R
  unfold wpX_place
  dsimp only
  rcases zn_m v1 with ⟨m, hm, rfl⟩ | ⟨h0, h1⟩
  · have w : vp_in (nI m) 2 := vp_in_nI hm (by omega)
    exact zx_m (zn_c hm) (br_f (by decide) ⟨w, zn_y (zn_c hm) ⟨w, rfl, zz_in R⟩⟩)
  · exact zx_m0 h0 h1 (br_t rfl (zn_y0 h0 h1 ⟨rfl, zz_in R⟩))
theorem i_vc_halvesDone {k : Nat} {u : SX} {v : SY} (I : i_Rel k u v) (hk : k + 5 ≤ 2562) (v1 : Int32) : wpX_halvesDone (fun r => wpY_halvesDone (fun r' => r' = r ∧ i_Rel (k + 5) u v) v v1) u v1 := by
  refine zz_el (P := fun u v => wpX_halvesDone (fun r => wpY_halvesDone (fun r' => r' = r ∧ i_Rel (k + 5) u v) v v1) u v1) ?_ I
  intro lg og tp vt iv CC AA N kd oA oB oC ln ip sa pc fl bh vl el ou oc bv so bd fi fw se sw ts yb yv R
  unfold wpX_halvesDone
  dsimp only
  rcases zn_m v1 with ⟨m, hm, rfl⟩ | ⟨h0, h1⟩
  · have w : vp_in (nI m) 2 := vp_in_nI hm (by omega)
    exact zx_m (zn_c hm) (br_f (by decide) ⟨w, zn_y (zn_c hm) ⟨w, rfl, zz_in R⟩⟩)
  · exact zx_m0 h0 h1 (br_t rfl (zn_y0 h0 h1 ⟨rfl, zz_in R⟩))
end
section
section ZK
/-! values, elements, outputs -/
variable {CC AA N m p q : Nat}
variable {lg og tp vt iv ce ac fn : Int32} {kd oA oB oC ln ip sa pc fl bh vl el ou oc bv so bd fi fw se sw ts : Nat → Int32}
variable {yb yv : Nat → Int32}
theorem zk_y (hN : N ≤ 32) (hm : m < 2) (hp : p < N) {post : Int32 → Prop} (h : post (yv (32 * m + p))) : wpY_value post (ce, ac, nI N, kd, oA, oB, oC, ln, ip, yb, sa, pc, oc, bv, fl, yv, el, ou) (nI m) (nI p) := by
  refine zn_y (zn_c hm) (br_f (nI_pos (by omega)) (br_f (nI_ge hp (by omega)) ?_))
  rw [zn_32, nI_clamp (by omega)]
  exact ⟨vp_in_nI (by omega) (by omega), h⟩
theorem zk_y0 {x : Int32} (hm : m < 2) (hx : x < 0 ∨ nI N ≤ x) {post : Int32 → Prop} (h : post (-1000)) : wpY_value post (ce, ac, nI N, kd, oA, oB, oC, ln, ip, yb, sa, pc, oc, bv, fl, yv, el, ou) (nI m) x :=
  zn_y (zn_c hm) (br_c (fun _ => h) (fun hn => br_t (hx.resolve_left hn) h))
theorem zk_nm {x : Int32} (h0 : ¬ x = 0) (h1 : ¬ x = 1) : x < 0 ∨ 1 < x := by
  rw [qn_eq, qn_0] at h0
  rw [qn_eq, qn_1] at h1
  rw [qn_lt, qn_lt, qn_0, qn_1]
  omega
end ZK
theorem i_vc_value {k : Nat} {u : SX} {v : SY} (I : i_Rel k u v) (hk : k + 5 ≤ 2562) (v1 : Int32) (v2 : Int32) : wpX_value (fun r => wpY_value (fun r' => r' = r ∧ i_Rel (k + 5) u v) v v1 v2) u v1 v2 := by
  refine zz_el (P := fun u v => wpX_value (fun r => wpY_value (fun r' => r' = r ∧ i_Rel (k + 5) u v) v v1 v2) u v1 v2) ?_ I
  intro lg og tp vt iv CC AA N kd oA oB oC ln ip sa pc fl bh vl el ou oc bv so bd fi fw se sw ts yb yv R
  unfold wpX_value
  dsimp only
  have R2 := R
  obtain ⟨⟨c1, c2, c3, c4, c5, c6⟩, hS, hM, hV, hO⟩ := R
  rcases zn_m v1 with ⟨m, hm, rfl⟩ | ⟨h0, h1⟩
  · refine zx_m (zn_c hm) (br_f (by decide) ?_)
    rcases pk_ix v2 (n := N) (by omega) with h1 | h1 | ⟨p, hp, rfl⟩
    · exact zx_e0 (Or.inl h1) (br_t rfl (zk_y0 hm (Or.inl h1) ⟨rfl, zz_in R2⟩))
    · exact zx_e0 (Or.inr h1) (br_t rfl (zk_y0 hm (Or.inr h1) ⟨rfl, zz_in R2⟩))
    · refine zx_e (by omega) hp (br_f (by decide) ?_)
      rw [zn_32, nI_clamp (by omega)]
      have w : vp_in (nI (32 * m + p)) 64 := vp_in_nI (by omega) (by omega)
      rcases hV m p hm (by omega) with ⟨e1, e2⟩ | ⟨e1, e2, e3, e4, e5⟩
      · exact ⟨w, br_t e1 (zk_y (by omega) hm hp ⟨e2, zz_in R2⟩)⟩
      · exact ⟨w, br_f (by rw [e1]; decide) ⟨w, zk_y (by omega) hm hp ⟨e3, zz_in R2⟩⟩⟩
  · exact zx_m0 h0 h1 (br_t rfl (zn_y0 h0 h1 ⟨rfl, zz_in R2⟩))
theorem i_vc_element {k : Nat} {u : SX} {v : SY} (I : i_Rel k u v) (hk : k + 5 ≤ 2562) (v1 : Int32) (v2 : Int32) (v3 : Int32) : wpX_element (fun r => wpY_element (fun r' => r' = r ∧ i_Rel (k + 5) u v) v v1 v2 v3) u v1 v2 v3 := by
  refine zz_el (P := fun u v => wpX_element (fun r => wpY_element (fun r' => r' = r ∧ i_Rel (k + 5) u v) v v1 v2 v3) u v1 v2 v3) ?_ I
  intro lg og tp vt iv CC AA N kd oA oB oC ln ip sa pc fl bh vl el ou oc bv so bd fi fw se sw ts yb yv R
  unfold wpX_element
  dsimp only
  have R2 := R
  obtain ⟨⟨c1, c2, c3, c4, c5, c6⟩, hS, hM, hV, hO⟩ := R
  rcases zn_m v1 with ⟨m, hm, rfl⟩ | ⟨h0, h1⟩
  · refine zx_m (zn_c hm) (br_f (by decide) ?_)
    have m0 : ¬ nI m < 0 := nI_pos (by omega)
    have m1 : ¬ 1 < nI m := nI_nlt (b := m) (a := 1) (by omega) (by omega)
    rcases pk_ix v2 (n := AA) (by omega) with h1 | h1 | ⟨j, hj, rfl⟩
    · exact zx_a0 (Or.inl h1) (br_t rfl (br_f m0 (br_f m1 (br_t h1 ⟨rfl, zz_in R2⟩))))
    · exact zx_a0 (Or.inr h1) (br_t rfl (br_f m0 (br_f m1 (br_c (fun _ => ⟨rfl, zz_in R2⟩) (fun _ => br_t h1 ⟨rfl, zz_in R2⟩)))))
    · refine zx_a c4 hj (br_f (by decide) ?_)
      have j0 : ¬ nI j < 0 := nI_pos (by omega)
      have j1 : ¬ nI AA ≤ nI j := nI_ge hj (by omega)
      have w3 : vp_in (nI j) 3 := vp_in_nI (by omega) (by omega)
      rw [nI_clamp (n := j) (by omega)]
      by_cases h2 : v3 < 0
      · exact br_t h2 (br_f m0 (br_f m1 (br_f j0 (br_f j1 (br_t h2 ⟨rfl, zz_in R2⟩)))))
      · by_cases h3 : v3 < ln j
        · obtain ⟨x, hx, rfl⟩ := nI_of h2
          have hl := (hS.1 j (by omega)).2
          have h4 := h3
          rw [qn_lt, qn_n hx] at h4
          have w : vp_in (nI (48 * m + 16 * j + x)) 96 := vp_in_nI (by omega) (by omega)
          rw [zn_48, nI_clamp (n := 48 * m + 16 * j + x) (by omega)]
          refine br_f h2 ⟨w3, br_t h3 ⟨w, br_f m0 (br_f m1 (br_f j0 (br_f j1 (br_f h2 ?_))))⟩⟩
          rw [zn_3, nI_clamp (n := 48 * m + 16 * j + x) (by omega), nI_clamp (n := j) (by omega)]
          exact ⟨w3, br_t h3 ⟨w, rfl, zz_in R2⟩⟩
        · refine br_f h2 ⟨w3, br_f h3 (br_f m0 (br_f m1 (br_f j0 (br_f j1 (br_f h2 ?_)))))⟩
          rw [nI_clamp (n := j) (by omega)]
          exact ⟨w3, br_f h3 ⟨rfl, zz_in R2⟩⟩
  · rcases zk_nm h0 h1 with h2 | h2
    · exact zx_m0 h0 h1 (br_t rfl (br_t h2 ⟨rfl, zz_in R2⟩))
    · exact zx_m0 h0 h1 (br_t rfl (br_c (fun _ => ⟨rfl, zz_in R2⟩) (fun _ => br_t h2 ⟨rfl, zz_in R2⟩)))
theorem i_vc_output {k : Nat} {u : SX} {v : SY} (I : i_Rel k u v) (hk : k + 5 ≤ 2562) (v1 : Int32) (v2 : Int32) : wpX_output (fun r => wpY_output (fun r' => r' = r ∧ i_Rel (k + 5) u v) v v1 v2) u v1 v2 := by
  refine zz_el (P := fun u v => wpX_output (fun r => wpY_output (fun r' => r' = r ∧ i_Rel (k + 5) u v) v v1 v2) u v1 v2) ?_ I
  intro lg og tp vt iv CC AA N kd oA oB oC ln ip sa pc fl bh vl el ou oc bv so bd fi fw se sw ts yb yv R
  unfold wpX_output
  dsimp only
  have R2 := R
  obtain ⟨⟨c1, c2, c3, c4, c5, c6⟩, hS, hM, hV, hO⟩ := R
  rcases zn_m v1 with ⟨m, hm, rfl⟩ | ⟨h0, h1⟩
  · obtain ⟨_, _, Q, hQ, hq⟩ := hM.1 m hm
    have w2 : vp_in (nI m) 2 := vp_in_nI hm (by omega)
    refine zx_m (zn_c hm) (br_f (by decide) ?_)
    rw [nI_clamp (n := m) (by omega), hq]
    by_cases h2 : v2 < 0
    · exact br_t h2 (zn_y (zn_c hm) (br_t h2 ⟨rfl, zz_in R2⟩))
    · obtain ⟨x, hx, rfl⟩ := nI_of h2
      refine br_f h2 ⟨w2, ?_⟩
      by_cases h3 : x < Q
      · have w : vp_in (nI (16 * m + x)) 32 := vp_in_nI (by omega) (by omega)
        rw [zn_16, nI_clamp (n := 16 * m + x) (by omega)]
        refine br_t (nI_lt h3 (by omega)) ⟨w, zn_y (zn_c hm) (br_f h2 ?_)⟩
        rw [zn_16, nI_clamp (n := 16 * m + x) (by omega), nI_clamp (n := m) (by omega), hq]
        exact ⟨w2, br_f (nI_ge h3 (by omega)) ⟨w, rfl, zz_in R2⟩⟩
      · refine br_f (nI_nlt (by omega) (by omega)) (zn_y (zn_c hm) (br_f h2 ?_))
        rw [nI_clamp (n := m) (by omega), hq]
        exact ⟨w2, br_t (nI_le (by omega) hx) ⟨rfl, zz_in R2⟩⟩
  · exact zx_m0 h0 h1 (br_t rfl (zn_y0 h0 h1 ⟨rfl, zz_in R2⟩))
section ZL
variable {CC AA N : Nat}
theorem zl_up {p M : Nat} {kd : Nat → Int32} {x c a b d : Int32} (hp : p ≤ M) (h : cr_ok CC AA p kd c a b d) : cr_ok CC AA p (upd kd M x) c a b d := by
  rcases h with h | h | h | h | h | h | h | ⟨e, q, hq, ha, hk⟩ | ⟨e, ⟨q, hq, ha, hk⟩, h2⟩ | h | h
  · exact Or.inl h
  · exact Or.inr (Or.inl h)
  · exact Or.inr (Or.inr (Or.inl h))
  · exact Or.inr (Or.inr (Or.inr (Or.inl h)))
  · exact Or.inr (Or.inr (Or.inr (Or.inr (Or.inl h))))
  · exact Or.inr (Or.inr (Or.inr (Or.inr (Or.inr (Or.inl h)))))
  · exact Or.inr (Or.inr (Or.inr (Or.inr (Or.inr (Or.inr (Or.inl h))))))
  · exact Or.inr (Or.inr (Or.inr (Or.inr (Or.inr (Or.inr (Or.inr (Or.inl ⟨e, q, hq, ha, by rw [pk_un (by omega)]; exact hk⟩)))))))
  · exact Or.inr (Or.inr (Or.inr (Or.inr (Or.inr (Or.inr (Or.inr (Or.inr (Or.inl ⟨e, ⟨q, hq, ha, by rw [pk_un (by omega)]; exact hk⟩, h2⟩))))))))
  · exact Or.inr (Or.inr (Or.inr (Or.inr (Or.inr (Or.inr (Or.inr (Or.inr (Or.inr (Or.inl h)))))))))
  · exact Or.inr (Or.inr (Or.inr (Or.inr (Or.inr (Or.inr (Or.inr (Or.inr (Or.inr (Or.inr h)))))))))
theorem zl_code {kd oA oB oC : Nat → Int32} {c a b d : Int32} (h : cr_code CC AA N kd oA oB oC) (hn : cr_ok CC AA N kd c a b d) : cr_code CC AA (N + 1) (upd kd N c) (upd oA N a) (upd oB N b) (upd oC N d) := by
  intro p hp
  by_cases e : p = N
  · subst e
    rw [pk_us, pk_us, pk_us, pk_us]
    exact zl_up (Nat.le_refl p) hn
  · rw [pk_un e, pk_un e, pk_un e, pk_un e]
    exact zl_up (by omega) (h p (by omega))
end ZL
theorem i_vc_emit {k : Nat} {u : SX} {v : SY} (I : i_Rel k u v) (hk : k + 5 ≤ 2562) (v1 : Int32) (v2 : Int32) (v3 : Int32) (v4 : Int32) : wpX_emit (fun r u' => wpY_emit (fun r' v' => r' = r ∧ i_Rel (k + 5) u' v') v v1 v2 v3 v4) u v1 v2 v3 v4 := by
  refine zz_el (P := fun u v => wpX_emit (fun r u' => wpY_emit (fun r' v' => r' = r ∧ i_Rel (k + 5) u' v') v v1 v2 v3 v4) u v1 v2 v3 v4) ?_ I
  intro lg og tp vt iv CC AA N kd oA oB oC ln ip sa pc fl bh vl el ou oc bv so bd fi fw se sw ts yb yv R
  unfold wpX_emit
  dsimp only
  have R2 := R
  obtain ⟨⟨c1, c2, c3, c4, c5, c6⟩, hS, hM, hV, hO⟩ := R
  by_cases h0 : v1 < 0
  · exact zx_w0 (Or.inl h0) (br_t rfl (br_t h0 ⟨rfl, zz_in R2⟩))
  · by_cases h1 : 14 < v1
    · exact zx_w0 (Or.inr h1) (br_t rfl (br_f h0 (br_f (Int32.not_le.mpr h1) ⟨rfl, zz_in R2⟩)))
    · have h14 := Int32.not_lt.mp h1
      refine zx_w (Int32.not_lt.mp h0) h14 (br_f (by decide) ?_)
      by_cases hn : N = CC
      · subst hn
        exact br_t rfl (br_f h0 (br_t h14 (br_f (nI_nlt (Nat.le_refl N) (by omega)) ⟨rfl, zz_in R2⟩)))
      · have e1 : ¬ nI N = nI CC := fun e => hn (qn_inj e (by omega) (by omega))
        have e2 : nI N < nI CC := nI_lt (by omega) (by omega)
        obtain ⟨r, hr, hX, hY⟩ := zf_fit (a := v2) (b := v3) (d := v4) (lg := lg) (og := og) (tp := tp) (vt := vt) (iv := iv) (kd := kd) (oA := oA) (oB := oB) (oC := oC) (ln := ln) (ip := ip) (sa := sa) (pc := pc) (fl := fl) (bh := bh) (vl := vl) (el := el) (ou := ou) (oc := oc) (bv := bv) (so := so) (bd := bd) (fi := fi) (fw := fw) (se := se) (sw := sw) (ts := ts) (yb := yb) (yv := yv) (by omega : N ≤ 32) c2 c4 h0 h14
        refine br_f e1 (hX _ ?_)
        rcases hr with rfl | ⟨rfl, hr⟩
        · exact br_t rfl (br_f h0 (br_t h14 (br_t e2 (hY _ (br_t rfl ⟨rfl, zz_in R2⟩)))))
        · have w : vp_in (nI N) 32 := vp_in_nI (by omega) (by omega)
          have cl : (nI N).toNatClampNeg = N := nI_clamp (by omega)
          refine br_f (by decide) ?_
          rw [cl]
          refine ⟨w, nm_e ⟨w, nm_e ⟨w, nm_e ⟨w, nm_e (nm_r (nI_1 N) (zr_cc ?_))⟩⟩⟩⟩
          dsimp only
          refine br_f h0 (br_t h14 (br_t e2 (hY _ (br_f (by decide) ?_))))
          rw [cl]
          exact ⟨w, nm_e ⟨w, nm_e ⟨w, nm_e ⟨w, nm_e (nm_r (nI_1 N) (zr_y ⟨nI_pred N, zz_in ⟨⟨c1, c2, c3, c4, by omega, zl_code c6 hr⟩, hS, zz_M0, zz_V0, zz_ok0⟩⟩))⟩⟩⟩⟩
end
section
section ZM
/-! atMost, atLeast, redundantHalves: one answer, the component's graphs kept right -/
variable {CC AA N : Nat}
variable {lg og tp vt iv ce ac fn : Int32} {kd oA oB oC ln ip sa pc fl bh vl el ou oc bv so bd fi fw se sw ts : Nat → Int32}
variable {yb yv : Nat → Int32}
/-- both sides end with one answer -/
abbrev zm_Out (CC AA N : Nat) (Q : Int32 → Prop) (lg og tp vt iv : Int32) (kd oA oB oC ln ip sa pc fl bh vl el ou oc bv yv : Nat → Int32) (WX : (Int32 → SX → Prop) → Prop) (WY : (Int32 → SY → Prop) → Prop) : Prop :=
  ∃ (r : Int32) (so bd fi fw se sw ts yb : Nat → Int32), Q r ∧ xe_ok N kd oA oB so bd ∧
    (∀ post : Int32 → SX → Prop, post r (lg, og, tp, vt, iv, nI CC, nI AA, nI N, kd, oA, oB, oC, ln, ip, sa, pc, fl, bh, vl, el, ou, oc, bv, so, bd, fi, fw, se, sw, ts) → WX post) ∧ (∀ post : Int32 → SY → Prop, post r (nI CC, nI AA, nI N, kd, oA, oB, oC, ln, ip, yb, sa, pc, oc, bv, fl, yv, el, ou) → WY post)
theorem zm_most (hC : zz_C CC AA N kd oA oB oC) (hO : xe_ok N kd oA oB so bd) (v1 v2 v3 : Int32) :
    zm_Out CC AA N (fun r => r = 0 ∨ r = 1) lg og tp vt iv kd oA oB oC ln ip sa pc fl bh vl el ou oc bv yv (fun post => wpX_atMost post (lg, og, tp, vt, iv, nI CC, nI AA, nI N, kd, oA, oB, oC, ln, ip, sa, pc, fl, bh, vl, el, ou, oc, bv, so, bd, fi, fw, se, sw, ts) v1 v2 v3) (fun post => wpY_atMost post (nI CC, nI AA, nI N, kd, oA, oB, oC, ln, ip, yb, sa, pc, oc, bv, fl, yv, el, ou) v1 v2 v3) := by
  obtain ⟨c1, c2, c3, c4, c5, c6⟩ := hC
  rcases pk_ix v1 (n := N) (by omega) with h1 | h1 | ⟨p, hp, rfl⟩
  · refine ⟨0, so, bd, fi, fw, se, sw, ts, yb, Or.inl rfl, hO, fun post h => ?_, fun post h => br_t h1 h⟩
    unfold wpX_atMost
    dsimp only
    exact zx_e0 (Or.inl h1) (br_t rfl h)
  · refine ⟨0, so, bd, fi, fw, se, sw, ts, yb, Or.inl rfl, hO, fun post h => ?_, fun post h => br_c (fun _ => h) (fun _ => br_t h1 h)⟩
    unfold wpX_atMost
    dsimp only
    exact zx_e0 (Or.inr h1) (br_t rfl h)
  · have p0 : ¬ nI p < 0 := nI_pos (by omega)
    have p1 : ¬ nI N ≤ nI p := nI_ge hp (by omega)
    rcases pk_ix v2 (n := AA) (by omega) with h1 | h1 | ⟨j, hj, rfl⟩
    · refine ⟨0, so, bd, fi, fw, se, sw, ts, yb, Or.inl rfl, hO, fun post h => ?_, fun post h => br_f p0 (br_f p1 (br_t h1 h))⟩
      unfold wpX_atMost
      dsimp only
      exact zx_e (by omega) hp (br_f (by decide) (zx_a0 (Or.inl h1) (br_t rfl h)))
    · refine ⟨0, so, bd, fi, fw, se, sw, ts, yb, Or.inl rfl, hO, fun post h => ?_, fun post h => br_f p0 (br_f p1 (br_c (fun _ => h) (fun _ => br_f (Int32.not_lt.mpr h1) h)))⟩
      unfold wpX_atMost
      dsimp only
      exact zx_e (by omega) hp (br_f (by decide) (zx_a0 (Or.inr h1) (br_t rfl h)))
    · have j0 : ¬ nI j < 0 := nI_pos (by omega)
      have j1 : nI j < nI AA := nI_lt hj (by omega)
      obtain ⟨r, so', bd', fi', fw', se', sw', ts', ⟨b, hL, hr⟩, hO2, hX⟩ := xe_bound (lg := lg) (og := og) (tp := tp) (vt := vt) (iv := iv) (ce := nI CC) (ac := nI AA) (kd := kd) (oA := oA) (oB := oB) (oC := oC) (ln := ln) (ip := ip) (sa := sa) (pc := pc) (fl := fl) (bh := bh) (vl := vl) (el := el) (ou := ou) (oc := oc) (bv := bv) (so := so) (bd := bd) (fi := fi) (fw := fw) (se := se) (sw := sw) (ts := ts) (g := j) (by omega) c2 c4 c5 c6 hO hp
      obtain ⟨yb', hyb, hY⟩ := yc_up (ce := nI CC) (ac := nI AA) (kd := kd) (oA := oA) (oB := oB) (oC := oC) (ln := ln) (ip := ip) (yb := yb) (sa := sa) (pc := pc) (oc := oc) (bv := bv) (fl := fl) (yv := yv) (el := el) (ou := ou) c2 c5 c6 (by omega : j < 3) hL
      have hyp := hyb p hp
      have w : vp_in (nI p) 32 := vp_in_nI (by omega) (by omega)
      have cl : (nI p).toNatClampNeg = p := nI_clamp (by omega)
      have hx : ∀ (post : Int32 → SX → Prop), ((100000 ≤ r → post 0 (lg, og, tp, vt, iv, nI CC, nI AA, nI N, kd, oA, oB, oC, ln, ip, sa, pc, fl, bh, vl, el, ou, oc, bv, so', bd', fi', fw', se', sw', ts')) ∧ (¬ 100000 ≤ r → ((v3 < r → post 0 (lg, og, tp, vt, iv, nI CC, nI AA, nI N, kd, oA, oB, oC, ln, ip, sa, pc, fl, bh, vl, el, ou, oc, bv, so', bd', fi', fw', se', sw', ts')) ∧ (¬ v3 < r → post 1 (lg, og, tp, vt, iv, nI CC, nI AA, nI N, kd, oA, oB, oC, ln, ip, sa, pc, fl, bh, vl, el, ou, oc, bv, so', bd', fi', fw', se', sw', ts'))))) →
          wpX_atMost post (lg, og, tp, vt, iv, nI CC, nI AA, nI N, kd, oA, oB, oC, ln, ip, sa, pc, fl, bh, vl, el, ou, oc, bv, so, bd, fi, fw, se, sw, ts) (nI p) (nI j) v3 := by
        intro post h
        unfold wpX_atMost
        dsimp only
        exact zx_e (by omega) hp (br_f (by decide) (zx_a c4 hj (br_f (by decide) (hX _ h))))
      have hy : ∀ (post : Int32 → SY → Prop), ((150 < yb' p → post 0 (nI CC, nI AA, nI N, kd, oA, oB, oC, ln, ip, yb', sa, pc, oc, bv, fl, yv, el, ou)) ∧ (¬ 150 < yb' p → (vp_in (nI p) 32 ∧ ((v3 < yb' p → post 0 (nI CC, nI AA, nI N, kd, oA, oB, oC, ln, ip, yb', sa, pc, oc, bv, fl, yv, el, ou)) ∧ (¬ v3 < yb' p → post 1 (nI CC, nI AA, nI N, kd, oA, oB, oC, ln, ip, yb', sa, pc, oc, bv, fl, yv, el, ou)))))) →
          wpY_atMost post (nI CC, nI AA, nI N, kd, oA, oB, oC, ln, ip, yb, sa, pc, oc, bv, fl, yv, el, ou) (nI p) (nI j) v3 := by
        intro post h
        refine br_f p0 (br_f p1 (br_f j0 (br_t j1 (hY _ ?_))))
        dsimp only
        rw [cl]
        exact ⟨w, h⟩
      rcases hL.2.1 p hp with hb | hb
      · refine ⟨0, so', bd', fi', fw', se', sw', ts', yb', Or.inl rfl, hO2, fun post h => hx post (br_t (by rw [qn_le, qn_inf, hr]; omega) h), fun post h => hy post (br_t ?_ h)⟩
        rw [qn_lt, qn_150, hyp, hb]; decide
      · have hz : ya_zc (b p) = b p := if_neg (by omega)
        have x1 : ¬ 100000 ≤ r := by rw [qn_le, qn_inf, hr]; omega
        have y1 : ¬ 150 < yb' p := by rw [qn_lt, qn_150, hyp, hz]; omega
        have e : r = yb' p := by rw [qn_eq, hr, hyp, hz]
        by_cases h3 : v3 < r
        · exact ⟨0, so', bd', fi', fw', se', sw', ts', yb', Or.inl rfl, hO2, fun post h => hx post (br_f x1 (br_t h3 h)), fun post h => hy post (br_f y1 ⟨w, br_t (by rw [← e]; exact h3) h⟩)⟩
        · exact ⟨1, so', bd', fi', fw', se', sw', ts', yb', Or.inr rfl, hO2, fun post h => hx post (br_f x1 (br_f h3 h)), fun post h => hy post (br_f y1 ⟨w, br_f (by rw [← e]; exact h3) h⟩)⟩
theorem zm_least (hC : zz_C CC AA N kd oA oB oC) (hO : xe_ok N kd oA oB so bd) (v1 v3 : Int32) :
    zm_Out CC AA N (fun r => r = 0 ∨ r = 1) lg og tp vt iv kd oA oB oC ln ip sa pc fl bh vl el ou oc bv yv (fun post => wpX_atLeast post (lg, og, tp, vt, iv, nI CC, nI AA, nI N, kd, oA, oB, oC, ln, ip, sa, pc, fl, bh, vl, el, ou, oc, bv, so, bd, fi, fw, se, sw, ts) v1 v3) (fun post => wpY_atLeast post (nI CC, nI AA, nI N, kd, oA, oB, oC, ln, ip, yb, sa, pc, oc, bv, fl, yv, el, ou) v1 v3) := by
  obtain ⟨c1, c2, c3, c4, c5, c6⟩ := hC
  rcases pk_ix v1 (n := N) (by omega) with h1 | h1 | ⟨p, hp, rfl⟩
  · refine ⟨0, so, bd, fi, fw, se, sw, ts, yb, Or.inl rfl, hO, fun post h => ?_, fun post h => br_t h1 h⟩
    unfold wpX_atLeast
    dsimp only
    exact zx_e0 (Or.inl h1) (br_t rfl h)
  · refine ⟨0, so, bd, fi, fw, se, sw, ts, yb, Or.inl rfl, hO, fun post h => ?_, fun post h => br_c (fun _ => h) (fun _ => br_f (Int32.not_lt.mpr h1) h)⟩
    unfold wpX_atLeast
    dsimp only
    exact zx_e0 (Or.inr h1) (br_t rfl h)
  · have p0 : ¬ nI p < 0 := nI_pos (by omega)
    have p1 : nI p < nI N := nI_lt hp (by omega)
    obtain ⟨r, so', bd', fi', fw', se', sw', ts', ⟨b, hL, hr⟩, hO2, hX⟩ := xe_bound (lg := lg) (og := og) (tp := tp) (vt := vt) (iv := iv) (ce := nI CC) (ac := nI AA) (kd := kd) (oA := oA) (oB := oB) (oC := oC) (ln := ln) (ip := ip) (sa := sa) (pc := pc) (fl := fl) (bh := bh) (vl := vl) (el := el) (ou := ou) (oc := oc) (bv := bv) (so := so) (bd := bd) (fi := fi) (fw := fw) (se := se) (sw := sw) (ts := ts) (g := 3) (by omega) c2 c4 c5 c6 hO hp
    obtain ⟨yb', hyb, hY⟩ := yc_low (ce := nI CC) (ac := nI AA) (kd := kd) (oA := oA) (oB := oB) (oC := oC) (ln := ln) (ip := ip) (yb := yb) (sa := sa) (pc := pc) (oc := oc) (bv := bv) (fl := fl) (yv := yv) (el := el) (ou := ou) c2 c5 c6 hL
    have hyp := hyb p hp
    have w : vp_in (nI p) 32 := vp_in_nI (by omega) (by omega)
    have cl : (nI p).toNatClampNeg = p := nI_clamp (by omega)
    have hx : ∀ (post : Int32 → SX → Prop), ((100000 ≤ r → post 0 (lg, og, tp, vt, iv, nI CC, nI AA, nI N, kd, oA, oB, oC, ln, ip, sa, pc, fl, bh, vl, el, ou, oc, bv, so', bd', fi', fw', se', sw', ts')) ∧ (¬ 100000 ≤ r → ((-r < v3 → post 0 (lg, og, tp, vt, iv, nI CC, nI AA, nI N, kd, oA, oB, oC, ln, ip, sa, pc, fl, bh, vl, el, ou, oc, bv, so', bd', fi', fw', se', sw', ts')) ∧ (¬ -r < v3 → post 1 (lg, og, tp, vt, iv, nI CC, nI AA, nI N, kd, oA, oB, oC, ln, ip, sa, pc, fl, bh, vl, el, ou, oc, bv, so', bd', fi', fw', se', sw', ts'))))) →
        wpX_atLeast post (lg, og, tp, vt, iv, nI CC, nI AA, nI N, kd, oA, oB, oC, ln, ip, sa, pc, fl, bh, vl, el, ou, oc, bv, so, bd, fi, fw, se, sw, ts) (nI p) v3 := by
      intro post h
      unfold wpX_atLeast
      dsimp only
      exact zx_e (by omega) hp (br_f (by decide) (hX _ h))
    have hy : ∀ (post : Int32 → SY → Prop), ((yb' p < -150 → post 0 (nI CC, nI AA, nI N, kd, oA, oB, oC, ln, ip, yb', sa, pc, oc, bv, fl, yv, el, ou)) ∧ (¬ yb' p < -150 → (vp_in (nI p) 32 ∧ ((yb' p < v3 → post 0 (nI CC, nI AA, nI N, kd, oA, oB, oC, ln, ip, yb', sa, pc, oc, bv, fl, yv, el, ou)) ∧ (¬ yb' p < v3 → post 1 (nI CC, nI AA, nI N, kd, oA, oB, oC, ln, ip, yb', sa, pc, oc, bv, fl, yv, el, ou)))))) →
        wpY_atLeast post (nI CC, nI AA, nI N, kd, oA, oB, oC, ln, ip, yb, sa, pc, oc, bv, fl, yv, el, ou) (nI p) v3 := by
      intro post h
      refine br_f p0 (br_t p1 (hY _ ?_))
      dsimp only
      rw [cl]
      exact ⟨w, h⟩
    rcases hL.2.1 p hp with hb | hb
    · refine ⟨0, so', bd', fi', fw', se', sw', ts', yb', Or.inl rfl, hO2, fun post h => hx post (br_t (by rw [qn_le, qn_inf, hr]; omega) h), fun post h => hy post (br_t ?_ h)⟩
      rw [qn_lt, qn_m150, hyp, hb]; decide
    · have hz : ya_zc (b p) = b p := if_neg (by omega)
      have x1 : ¬ 100000 ≤ r := by rw [qn_le, qn_inf, hr]; omega
      have y1 : ¬ yb' p < -150 := by rw [qn_lt, qn_m150, hyp, hz]; omega
      have e : -r = yb' p := by rw [qn_eq, Jvm.Kit.i32_neg (by rw [hr]; omega), hr, hyp, hz]
      by_cases h3 : -r < v3
      · exact ⟨0, so', bd', fi', fw', se', sw', ts', yb', Or.inl rfl, hO2, fun post h => hx post (br_f x1 (br_t h3 h)), fun post h => hy post (br_f y1 ⟨w, br_t (by rw [← e]; exact h3) h⟩)⟩
      · exact ⟨1, so', bd', fi', fw', se', sw', ts', yb', Or.inr rfl, hO2, fun post h => hx post (br_f x1 (br_f h3 h)), fun post h => hy post (br_f y1 ⟨w, br_f (by rw [← e]; exact h3) h⟩)⟩
/-- the sum of the two halves -/
def zm_sum (r1 r2 : Int32) : Int32 := if r1 = 0 then (if r2 = 0 then 0 else 2) else (if r2 = 0 then 1 else 3)
theorem zm_red (hC : zz_C CC AA N kd oA oB oC) (hO : xe_ok N kd oA oB so bd) (v1 : Int32) :
    zm_Out CC AA N (fun _ => True) lg og tp vt iv kd oA oB oC ln ip sa pc fl bh vl el ou oc bv yv (fun post => wpX_redundantHalves post (lg, og, tp, vt, iv, nI CC, nI AA, nI N, kd, oA, oB, oC, ln, ip, sa, pc, fl, bh, vl, el, ou, oc, bv, so, bd, fi, fw, se, sw, ts) v1) (fun post => wpY_redundantHalves post (nI CC, nI AA, nI N, kd, oA, oB, oC, ln, ip, yb, sa, pc, oc, bv, fl, yv, el, ou) v1) := by
  have hC2 := hC
  obtain ⟨c1, c2, c3, c4, c5, c6⟩ := hC2
  rcases pk_ix v1 (n := N) (by omega) with h1 | h1 | ⟨p, hp, rfl⟩
  · refine ⟨-1, so, bd, fi, fw, se, sw, ts, yb, trivial, hO, fun post h => ?_, fun post h => br_t h1 h⟩
    unfold wpX_redundantHalves
    dsimp only
    exact zf_ck0 (Or.inl h1) (br_t rfl h)
  · refine ⟨-1, so, bd, fi, fw, se, sw, ts, yb, trivial, hO, fun post h => ?_, fun post h => br_c (fun _ => h) (fun _ => br_t h1 h)⟩
    unfold wpX_redundantHalves
    dsimp only
    exact zf_ck0 (Or.inr h1) (br_t rfl h)
  · have p0 : ¬ nI p < 0 := nI_pos (by omega)
    have p1 : ¬ nI N ≤ nI p := nI_ge hp (by omega)
    have w : vp_in (nI p) 32 := vp_in_nI (by omega) (by omega)
    have cl : (nI p).toNatClampNeg = p := nI_clamp (by omega)
    by_cases hk : kd p = 10
    · obtain ⟨r1, so1, bd1, fi1, fw1, se1, sw1, ts1, yb1, q1, hO1, hX1, hY1⟩ := zm_least (lg := lg) (og := og) (tp := tp) (vt := vt) (iv := iv) (kd := kd) (oA := oA) (oB := oB) (oC := oC) (ln := ln) (ip := ip) (sa := sa) (pc := pc) (fl := fl) (bh := bh) (vl := vl) (el := el) (ou := ou) (oc := oc) (bv := bv) (so := so) (bd := bd) (fi := fi) (fw := fw) (se := se) (sw := sw) (ts := ts) (yb := yb) (yv := yv) hC hO (oA p) 0
      obtain ⟨r2, so2, bd2, fi2, fw2, se2, sw2, ts2, yb2, q2, hO2, hX2, hY2⟩ := zm_most (lg := lg) (og := og) (tp := tp) (vt := vt) (iv := iv) (kd := kd) (oA := oA) (oB := oB) (oC := oC) (ln := ln) (ip := ip) (sa := sa) (pc := pc) (fl := fl) (bh := bh) (vl := vl) (el := el) (ou := ou) (oc := oc) (bv := bv) (so := so1) (bd := bd1) (fi := fi1) (fw := fw1) (se := se1) (sw := sw1) (ts := ts1) (yb := yb1) (yv := yv) hC hO1 (oA p) (oB p) (-1)
      refine ⟨zm_sum r1 r2, so2, bd2, fi2, fw2, se2, sw2, ts2, yb2, trivial, hO2, fun post h => ?_, fun post h => ?_⟩
      · unfold wpX_redundantHalves
        dsimp only
        rw [cl]
        refine zf_ck (by omega) hp hk (br_f (by decide) ⟨w, hX1 _ ?_⟩)
        dsimp only
        unfold wX_redundantHalves_29
        rw [cl]
        rcases q1 with rfl | rfl <;> rcases q2 with rfl | rfl
        · exact br_t rfl ⟨w, w, hX2 _ (br_t rfl h)⟩
        · exact br_t rfl ⟨w, w, hX2 _ (br_f (by decide) (nm_r (e' := 2) (by decide) h))⟩
        · exact br_f (by decide) (nm_r (e' := 1) (by decide) ⟨w, w, hX2 _ (br_t rfl h)⟩)
        · exact br_f (by decide) (nm_r (e' := 1) (by decide) ⟨w, w, hX2 _ (br_f (by decide) (nm_r (e' := 3) (by decide) h))⟩)
      · refine br_f p0 (br_f p1 ?_)
        rw [cl]
        refine ⟨w, br_t hk ⟨w, hY1 _ ⟨w, w, hY2 _ ?_⟩⟩⟩
        dsimp only
        unfold wY_redundantHalves_64
        rcases q1 with rfl | rfl <;> rcases q2 with rfl | rfl
        · exact br_t rfl (br_t rfl h)
        · exact br_t rfl (br_f (by decide) h)
        · exact br_f (by decide) (br_t rfl h)
        · exact br_f (by decide) (br_f (by decide) h)
    · refine ⟨-1, so, bd, fi, fw, se, sw, ts, yb, trivial, hO, fun post h => ?_, fun post h => ?_⟩
      · unfold wpX_redundantHalves
        dsimp only
        exact zf_ckn (by omega) hp hk (br_t rfl h)
      · refine br_f p0 (br_f p1 ?_)
        rw [cl]
        exact ⟨w, br_f hk h⟩
end ZM
end
section
theorem i_vc_atMost {k : Nat} {u : SX} {v : SY} (I : i_Rel k u v) (hk : k + 5 ≤ 2562) (v1 : Int32) (v2 : Int32) (v3 : Int32) : wpX_atMost (fun r u' => wpY_atMost (fun r' v' => r' = r ∧ i_Rel (k + 5) u' v') v v1 v2 v3) u v1 v2 v3 := by
  refine zz_el (P := fun u v => wpX_atMost (fun r u' => wpY_atMost (fun r' v' => r' = r ∧ i_Rel (k + 5) u' v') v v1 v2 v3) u v1 v2 v3) ?_ I
  intro lg og tp vt iv CC AA N kd oA oB oC ln ip sa pc fl bh vl el ou oc bv so bd fi fw se sw ts yb yv R
  obtain ⟨hC, hS, hM, hV, hO⟩ := R
  obtain ⟨r, so1, bd1, fi1, fw1, se1, sw1, ts1, yb1, _, hO1, hX, hY⟩ := zm_most (lg := lg) (og := og) (tp := tp) (vt := vt) (iv := iv) (kd := kd) (oA := oA) (oB := oB) (oC := oC) (ln := ln) (ip := ip) (sa := sa) (pc := pc) (fl := fl) (bh := bh) (vl := vl) (el := el) (ou := ou) (oc := oc) (bv := bv) (so := so) (bd := bd) (fi := fi) (fw := fw) (se := se) (sw := sw) (ts := ts) (yb := yb) (yv := yv) hC hO v1 v2 v3
  exact hX _ (hY _ ⟨rfl, zz_in ⟨hC, hS, hM, hV, hO1⟩⟩)
theorem i_vc_atLeast {k : Nat} {u : SX} {v : SY} (I : i_Rel k u v) (hk : k + 5 ≤ 2562) (v1 : Int32) (v2 : Int32) : wpX_atLeast (fun r u' => wpY_atLeast (fun r' v' => r' = r ∧ i_Rel (k + 5) u' v') v v1 v2) u v1 v2 := by
  refine zz_el (P := fun u v => wpX_atLeast (fun r u' => wpY_atLeast (fun r' v' => r' = r ∧ i_Rel (k + 5) u' v') v v1 v2) u v1 v2) ?_ I
  intro lg og tp vt iv CC AA N kd oA oB oC ln ip sa pc fl bh vl el ou oc bv so bd fi fw se sw ts yb yv R
  obtain ⟨hC, hS, hM, hV, hO⟩ := R
  obtain ⟨r, so1, bd1, fi1, fw1, se1, sw1, ts1, yb1, _, hO1, hX, hY⟩ := zm_least (lg := lg) (og := og) (tp := tp) (vt := vt) (iv := iv) (kd := kd) (oA := oA) (oB := oB) (oC := oC) (ln := ln) (ip := ip) (sa := sa) (pc := pc) (fl := fl) (bh := bh) (vl := vl) (el := el) (ou := ou) (oc := oc) (bv := bv) (so := so) (bd := bd) (fi := fi) (fw := fw) (se := se) (sw := sw) (ts := ts) (yb := yb) (yv := yv) hC hO v1 v2
  exact hX _ (hY _ ⟨rfl, zz_in ⟨hC, hS, hM, hV, hO1⟩⟩)
theorem i_vc_redundantHalves {k : Nat} {u : SX} {v : SY} (I : i_Rel k u v) (hk : k + 5 ≤ 2562) (v1 : Int32) : wpX_redundantHalves (fun r u' => wpY_redundantHalves (fun r' v' => r' = r ∧ i_Rel (k + 5) u' v') v v1) u v1 := by
  refine zz_el (P := fun u v => wpX_redundantHalves (fun r u' => wpY_redundantHalves (fun r' v' => r' = r ∧ i_Rel (k + 5) u' v') v v1) u v1) ?_ I
  intro lg og tp vt iv CC AA N kd oA oB oC ln ip sa pc fl bh vl el ou oc bv so bd fi fw se sw ts yb yv R
  obtain ⟨hC, hS, hM, hV, hO⟩ := R
  obtain ⟨r, so1, bd1, fi1, fw1, se1, sw1, ts1, yb1, _, hO1, hX, hY⟩ := zm_red (lg := lg) (og := og) (tp := tp) (vt := vt) (iv := iv) (kd := kd) (oA := oA) (oB := oB) (oC := oC) (ln := ln) (ip := ip) (sa := sa) (pc := pc) (fl := fl) (bh := bh) (vl := vl) (el := el) (ou := ou) (oc := oc) (bv := bv) (so := so) (bd := bd) (fi := fi) (fw := fw) (se := se) (sw := sw) (ts := ts) (yb := yb) (yv := yv) hC hO v1
  exact hX _ (hY _ ⟨rfl, zz_in ⟨hC, hS, hM, hV, hO1⟩⟩)
section ZS
/-! one step: the small methods of the component -/
variable {N m p q : Nat}
variable {lg og tp vt iv ce ac fn : Int32} {kd oA oB oC ln ip sa pc fl bh vl el ou oc bv so bd fi fw se sw ts : Nat → Int32}
theorem zs_set {v : Int32} (hm : m < 2) (hp : p < 32) {post : SX → Prop} (h : post (lg, og, tp, vt, iv, ce, ac, fn, kd, oA, oB, oC, ln, ip, sa, pc, fl, upd bh (32 * m + p) 1, upd vl (32 * m + p) v, el, ou, oc, bv, so, bd, fi, fw, se, sw, ts)) : wpX_setValue post (lg, og, tp, vt, iv, ce, ac, fn, kd, oA, oB, oC, ln, ip, sa, pc, fl, bh, vl, el, ou, oc, bv, so, bd, fi, fw, se, sw, ts) (nI m) (nI p) v := by
  have w : vp_in (nI (32 * m + p)) 64 := vp_in_nI (by omega) (by omega)
  unfold wpX_setValue
  dsimp only
  rw [zn_32, nI_clamp (by omega), qn_vb1]
  exact ⟨w, nm_e ⟨w, nm_e h⟩⟩
theorem zs_adv (hm : m < 2) {post : SX → Prop} (h : post (lg, og, tp, vt, iv, ce, ac, fn, kd, oA, oB, oC, ln, ip, sa, upd pc m (nI (p + 1)), upd fl m 0, bh, vl, el, ou, oc, bv, so, bd, fi, fw, se, sw, ts)) : wpX_advance post (lg, og, tp, vt, iv, ce, ac, fn, kd, oA, oB, oC, ln, ip, sa, pc, fl, bh, vl, el, ou, oc, bv, so, bd, fi, fw, se, sw, ts) (nI m) (nI p) := by
  have w : vp_in (nI m) 2 := vp_in_nI hm (by omega)
  unfold wpX_advance
  dsimp only
  rw [nI_clamp (by omega), qn_vb0, nI_1]
  exact ⟨w, nm_e ⟨w, nm_e h⟩⟩
theorem zs_fin {v : Int32} (hm : m < 2) (hp : p < 32) {post : SX → Prop} (h : post (lg, og, tp, vt, iv, ce, ac, fn, kd, oA, oB, oC, ln, ip, sa, upd pc m (nI (p + 1)), upd fl m 0, upd bh (32 * m + p) 1, upd vl (32 * m + p) v, el, ou, oc, bv, so, bd, fi, fw, se, sw, ts)) : wpX_finish post (lg, og, tp, vt, iv, ce, ac, fn, kd, oA, oB, oC, ln, ip, sa, pc, fl, bh, vl, el, ou, oc, bv, so, bd, fi, fw, se, sw, ts) (nI m) (nI p) v := by
  unfold wpX_finish
  exact zs_set hm hp (zs_adv hm h)
theorem zs_leap {x : Int32} (hm : m < 2) {post : SX → Prop} (h : post (lg, og, tp, vt, iv, ce, ac, fn, kd, oA, oB, oC, ln, ip, sa, upd pc m x, upd fl m 1, bh, vl, el, ou, oc, bv, so, bd, fi, fw, se, sw, ts)) : wpX_leap post (lg, og, tp, vt, iv, ce, ac, fn, kd, oA, oB, oC, ln, ip, sa, pc, fl, bh, vl, el, ou, oc, bv, so, bd, fi, fw, se, sw, ts) (nI m) x := by
  have w : vp_in (nI m) 2 := vp_in_nI hm (by omega)
  unfold wpX_leap
  dsimp only
  rw [nI_clamp (by omega), qn_vb1]
  exact ⟨w, nm_e ⟨w, nm_e h⟩⟩
theorem zs_lack1 (hm : m < 2) (hq : q < 32) (hh : bh (32 * m + q) = 0) {post : Int32 → SX → Prop} (h : post 1 (lg, og, tp, vt, iv, ce, ac, fn, kd, oA, oB, oC, ln, ip, upd sa m 6, pc, fl, bh, vl, el, ou, oc, bv, so, bd, fi, fw, se, sw, ts)) : wpX_lacks post (lg, og, tp, vt, iv, ce, ac, fn, kd, oA, oB, oC, ln, ip, sa, pc, fl, bh, vl, el, ou, oc, bv, so, bd, fi, fw, se, sw, ts) (nI m) (nI q) := by
  have w : vp_in (nI (32 * m + q)) 64 := vp_in_nI (by omega) (by omega)
  have w2 : vp_in (nI m) 2 := vp_in_nI hm (by omega)
  unfold wpX_lacks
  dsimp only
  rw [zn_32, nI_clamp (n := 32 * m + q) (by omega), nI_clamp (n := m) (by omega)]
  exact ⟨w, br_t hh ⟨w2, nm_e h⟩⟩
theorem zs_lack0 (hm : m < 2) (hq : q < 32) (hh : bh (32 * m + q) = 1) {post : Int32 → SX → Prop} (h : post 0 (lg, og, tp, vt, iv, ce, ac, fn, kd, oA, oB, oC, ln, ip, sa, pc, fl, bh, vl, el, ou, oc, bv, so, bd, fi, fw, se, sw, ts)) : wpX_lacks post (lg, og, tp, vt, iv, ce, ac, fn, kd, oA, oB, oC, ln, ip, sa, pc, fl, bh, vl, el, ou, oc, bv, so, bd, fi, fw, se, sw, ts) (nI m) (nI q) := by
  have w : vp_in (nI (32 * m + q)) 64 := vp_in_nI (by omega) (by omega)
  unfold wpX_lacks
  dsimp only
  rw [zn_32, nI_clamp (n := 32 * m + q) (by omega)]
  exact ⟨w, br_f (by rw [hh]; decide) h⟩
/-! the relation after a step -/
theorem zs_M {m q : Nat} {pc fl oc el : Nat → Int32} {x y : Int32} (hM : zz_M pc fl oc el) (hx : x = nI q) (hq : q ≤ 32) (hy : y = 0 ∨ y = 1) : zz_M (upd pc m x) (upd fl m y) oc el := by
  refine ⟨fun j hj => ?_, hM.2⟩
  obtain ⟨h1, h2, h3⟩ := hM.1 j hj
  by_cases e : j = m
  · subst e
    rw [pk_us, pk_us]
    exact ⟨⟨q, hq, hx⟩, hy, h3⟩
  · rw [pk_un e, pk_un e]
    exact ⟨h1, h2, h3⟩
theorem zs_V {N m p : Nat} {bh vl yv : Nat → Int32} {v : Int32} (hV : zz_V N bh vl yv) (hp : p < N) (hp2 : p < 32) (h1 : -128 ≤ v.toInt) (h2 : v.toInt ≤ 127) :
    zz_V N (upd bh (32 * m + p) 1) (upd vl (32 * m + p) v) (upd yv (32 * m + p) v) := by
  intro m2 p2 hm2 hp3
  by_cases e : 32 * m2 + p2 = 32 * m + p
  · rw [e, pk_us, pk_us, pk_us]
    exact Or.inr ⟨rfl, by omega, rfl, h1, h2⟩
  · rw [pk_un e, pk_un e, pk_un e]
    exact hV m2 p2 hm2 hp3
theorem zs_id {m : Nat} {a : Nat → Int32} : upd a m (a m) = a := by
  funext j
  by_cases e : j = m
  · subst e; exact pk_us
  · exact pk_un e
end ZS
end
section
section ZT
/-! one step of the reference: up to row 279 -/
variable {N m p q q2 kk : Nat} {c a b nx v ar x y : Int32}
variable {ce ac fn : Int32} {kd oA oB oC ln ip yb sa pc oc bv fl yv el ou : Nat → Int32}
theorem zt_in (hN : N ≤ 32) (hm : m < 2) (hpc : pc m = nI p) (hp : p < N) (hk : kd p = c) (hc : c < 6 ∨ 9 < c) {post : SY → Prop}
    (h : wY_step_80 post (nI m) (nI p) c (oA p) (oB p) (nI (p + 1)) (-1000) 0 0 ce ac (nI N) kd oA oB oC ln ip yb sa pc oc bv fl yv el ou) : wpY_step post (ce, ac, nI N, kd, oA, oB, oC, ln, ip, yb, sa, pc, oc, bv, fl, yv, el, ou) (nI m) := by
  have w2 : vp_in (nI m) 2 := vp_in_nI hm (by omega)
  have w : vp_in (nI p) 32 := vp_in_nI (by omega) (by omega)
  unfold wpY_step
  dsimp only
  rw [nI_clamp (n := m) (by omega)]
  refine ⟨w2, nm_r hpc (br_f (nI_pos (by omega)) (br_t (nI_lt hp (by omega)) ?_))⟩
  rw [nI_clamp (n := p) (by omega)]
  exact ⟨w, nm_r hk ⟨w, nm_e ⟨w, nm_e (nm_r (nI_1 p) (br_c (fun _ => h) (fun hn => br_t (hc.resolve_left hn) h)))⟩⟩⟩
theorem zt_inb (hN : N ≤ 32) (hm : m < 2) (hpc : pc m = nI p) (hp : p < N) (hk : kd p = c) (h6 : ¬ c < 6) (h9 : ¬ 9 < c) {post : SY → Prop}
    (h : wY_step_80 post (nI m) (nI p) c (oA p) (oB p) (nI (p + 1)) (-1000) 0 1 ce ac (nI N) kd oA oB oC ln ip yb sa pc oc bv fl yv el ou) : wpY_step post (ce, ac, nI N, kd, oA, oB, oC, ln, ip, yb, sa, pc, oc, bv, fl, yv, el, ou) (nI m) := by
  have w2 : vp_in (nI m) 2 := vp_in_nI hm (by omega)
  have w : vp_in (nI p) 32 := vp_in_nI (by omega) (by omega)
  unfold wpY_step
  dsimp only
  rw [nI_clamp (n := m) (by omega)]
  refine ⟨w2, nm_r hpc (br_f (nI_pos (by omega)) (br_t (nI_lt hp (by omega)) ?_))⟩
  rw [nI_clamp (n := p) (by omega)]
  exact ⟨w, nm_r hk ⟨w, nm_e ⟨w, nm_e (nm_r (nI_1 p) (br_f h6 (br_f h9 h)))⟩⟩⟩
theorem zt_done (hm : m < 2) (hpc : pc m = nI p) (hp : N ≤ p) (hp2 : p ≤ 32) {post : SY → Prop} (h : post (ce, ac, nI N, kd, oA, oB, oC, ln, ip, yb, upd sa m 2, pc, oc, bv, fl, yv, el, ou)) : wpY_step post (ce, ac, nI N, kd, oA, oB, oC, ln, ip, yb, sa, pc, oc, bv, fl, yv, el, ou) (nI m) := by
  have w2 : vp_in (nI m) 2 := vp_in_nI hm (by omega)
  unfold wpY_step
  dsimp only
  rw [nI_clamp (n := m) (by omega)]
  exact ⟨w2, nm_r hpc (br_f (nI_pos (by omega)) (br_f (nI_nlt hp (by omega)) ⟨w2, nm_e h⟩))⟩
theorem zt_any (hN : N ≤ 32) (hm : m < 2) (x : Int32) : ∃ r : Int32, ∀ post : Int32 → Prop, post r → wpY_value post (ce, ac, nI N, kd, oA, oB, oC, ln, ip, yb, sa, pc, oc, bv, fl, yv, el, ou) (nI m) x := by
  rcases pk_ix x (n := N) (by omega) with h | h | ⟨j, hj, rfl⟩
  · exact ⟨-1000, fun post hp => zk_y0 hm (Or.inl h) hp⟩
  · exact ⟨-1000, fun post hp => zk_y0 hm (Or.inr h) hp⟩
  · exact ⟨yv (32 * m + j), fun post hp => zk_y hN hm hj hp⟩
theorem zt_v (hN : N ≤ 32) (hm : m < 2) (hq : q < 32) (hx : q < N ∨ yv (32 * m + q) = -1000) {post : Int32 → Prop} (h : post (yv (32 * m + q))) : wpY_value post (ce, ac, nI N, kd, oA, oB, oC, ln, ip, yb, sa, pc, oc, bv, fl, yv, el, ou) (nI m) (nI q) := by
  by_cases hl : q < N
  · exact zk_y hN hm hl h
  · rw [hx.resolve_left hl] at h
    exact zk_y0 hm (Or.inr (nI_le (by omega) (by omega))) h
theorem zt_162n {x10 z : Int32} (h12 : ¬ c = 12) {post : SY → Prop} (h : wY_step_188 post (nI m) (nI p) c a b nx v ar 0 x10 x y z 0 ce ac fn kd oA oB oC ln ip yb sa pc oc bv fl yv el ou) : wY_step_162 post (nI m) (nI p) c a b nx v ar 0 x10 x y z ce ac fn kd oA oB oC ln ip yb sa pc oc bv fl yv el ou :=
  br_c (fun _ => br_t rfl (br_f h12 h)) (fun _ => h)
theorem zt_188 {x9 : Int32} {post : SY → Prop} (h : wY_step_279 post (nI m) (nI p) c a b nx v ar x9 x y 0 ce ac fn kd oA oB oC ln ip yb sa pc oc bv fl yv el ou) : wY_step_188 post (nI m) (nI p) c a b nx v ar x9 0 x y 0 0 ce ac fn kd oA oB oC ln ip yb sa pc oc bv fl yv el ou :=
  br_t rfl (br_t rfl (br_t rfl (br_t rfl (br_t rfl h))))
theorem zt_und {x9 x10 x13 z : Int32} (hm : m < 2) (hz : ¬ x13 = 0 ∨ ¬ z = 0) {post : SY → Prop} (h : post (ce, ac, fn, kd, oA, oB, oC, ln, ip, yb, upd sa m 6, pc, oc, bv, fl, yv, el, ou)) : wY_step_188 post (nI m) (nI p) c a b nx v ar x9 x10 x y x13 z ce ac fn kd oA oB oC ln ip yb sa pc oc bv fl yv el ou := by
  have w2 : vp_in (nI m) 2 := vp_in_nI hm (by omega)
  unfold wY_step_188
  rw [nI_clamp (n := m) (by omega)]
  by_cases h1 : x13 = 0
  · exact br_t h1 (br_f (hz.resolve_left (fun n => n h1)) ⟨w2, nm_e h⟩)
  · exact br_f h1 ⟨w2, nm_e h⟩
/-- a kind that asks no value -/
theorem zt_p (hN : N ≤ 32) (hm : m < 2) (hc : c < 3 ∨ 13 < c) (h11 : ¬ c = 11) (h12 : ¬ c = 12) (h5 : ¬ c = 5) :
    ∃ x y : Int32, ∀ post : SY → Prop, wY_step_279 post (nI m) (nI p) c a b nx v ar 0 x y 0 ce ac (nI N) kd oA oB oC ln ip yb sa pc oc bv fl yv el ou → wY_step_80 post (nI m) (nI p) c a b nx v ar 0 ce ac (nI N) kd oA oB oC ln ip yb sa pc oc bv fl yv el ou := by
  obtain ⟨x, hx⟩ := zt_any (ce := ce) (ac := ac) (kd := kd) (oA := oA) (oB := oB) (oC := oC) (ln := ln) (ip := ip) (yb := yb) (sa := sa) (pc := pc) (oc := oc) (bv := bv) (fl := fl) (yv := yv) (el := el) (ou := ou) hN hm a
  obtain ⟨y, hy⟩ := zt_any (ce := ce) (ac := ac) (kd := kd) (oA := oA) (oB := oB) (oC := oC) (ln := ln) (ip := ip) (yb := yb) (sa := sa) (pc := pc) (oc := oc) (bv := bv) (fl := fl) (yv := yv) (el := el) (ou := ou) hN hm b
  refine ⟨x, y, fun post h => br_f h11 (br_f h12 (br_f h5 ?_))⟩
  unfold wY_step_122 wY_step_124
  have h1 : wY_step_161 post (nI m) (nI p) c a b nx v ar 0 0 x y ce ac (nI N) kd oA oB oC ln ip yb sa pc oc bv fl yv el ou := zt_162n h12 (zt_188 h)
  exact hx _ (hy _ (br_c (fun _ => br_c (fun _ => h1) (fun hn => br_t (hc.resolve_left hn) h1)) (fun _ => h1)))
/-- a kind that asks one value, which is there -/
theorem zt_s (hN : N ≤ 32) (hm : m < 2) (h11 : ¬ c = 11) (h12 : ¬ c = 12) (h5 : ¬ c = 5) (hq : q < N) (hx : ¬ yv (32 * m + q) = -1000) :
    ∃ y : Int32, ∀ post : SY → Prop, wY_step_279 post (nI m) (nI p) c (nI q) b nx v ar 0 (yv (32 * m + q)) y 0 ce ac (nI N) kd oA oB oC ln ip yb sa pc oc bv fl yv el ou → wY_step_80 post (nI m) (nI p) c (nI q) b nx v ar 0 ce ac (nI N) kd oA oB oC ln ip yb sa pc oc bv fl yv el ou := by
  obtain ⟨y, hy⟩ := zt_any (ce := ce) (ac := ac) (kd := kd) (oA := oA) (oB := oB) (oC := oC) (ln := ln) (ip := ip) (yb := yb) (sa := sa) (pc := pc) (oc := oc) (bv := bv) (fl := fl) (yv := yv) (el := el) (ou := ou) hN hm b
  refine ⟨y, fun post h => br_f h11 (br_f h12 (br_f h5 ?_))⟩
  unfold wY_step_122 wY_step_124
  exact zk_y hN hm hq (hy _ (br_f hx (zt_162n h12 (zt_188 h))))
/-- .. and which is not -/
theorem zt_su (hN : N ≤ 32) (hm : m < 2) (h3 : ¬ c < 3) (h13 : ¬ 13 < c) (h11 : ¬ c = 11) (h12 : ¬ c = 12) (h5 : ¬ c = 5) (hq : q < N) (hx : yv (32 * m + q) = -1000) {post : SY → Prop} (h : post (ce, ac, nI N, kd, oA, oB, oC, ln, ip, yb, upd sa m 6, pc, oc, bv, fl, yv, el, ou)) :
    wY_step_80 post (nI m) (nI p) c (nI q) b nx v ar 0 ce ac (nI N) kd oA oB oC ln ip yb sa pc oc bv fl yv el ou := by
  obtain ⟨y, hy⟩ := zt_any (ce := ce) (ac := ac) (kd := kd) (oA := oA) (oB := oB) (oC := oC) (ln := ln) (ip := ip) (yb := yb) (sa := sa) (pc := pc) (oc := oc) (bv := bv) (fl := fl) (yv := yv) (el := el) (ou := ou) hN hm b
  refine br_f h11 (br_f h12 (br_f h5 ?_))
  unfold wY_step_122 wY_step_124
  exact zk_y hN hm hq (hy _ (br_t hx (br_f h3 (br_f h13 (zt_162n h12 (zt_und hm (Or.inl (by decide)) h))))))
/-- a PHI -/
theorem zt_phi (hN : N ≤ 32) (hm : m < 2) (hq : q < 32) (hv : q < N ∨ yv (32 * m + q) = -1000) (hs : (fl m = 0 ∧ a = nI q) ∨ (¬ fl m = 0 ∧ b = nI q)) (hx : ¬ yv (32 * m + q) = -1000) :
    ∃ y : Int32, ∀ post : SY → Prop, wY_step_279 post (nI m) (nI p) 5 a b nx v ar 0 (yv (32 * m + q)) y 0 ce ac (nI N) kd oA oB oC ln ip yb sa pc oc bv fl yv el ou → wY_step_80 post (nI m) (nI p) 5 a b nx v ar 0 ce ac (nI N) kd oA oB oC ln ip yb sa pc oc bv fl yv el ou := by
  have w2 : vp_in (nI m) 2 := vp_in_nI hm (by omega)
  obtain ⟨y, hy⟩ := zt_any (ce := ce) (ac := ac) (kd := kd) (oA := oA) (oB := oB) (oC := oC) (ln := ln) (ip := ip) (yb := yb) (sa := sa) (pc := pc) (oc := oc) (bv := bv) (fl := fl) (yv := yv) (el := el) (ou := ou) hN hm b
  refine ⟨y, fun post h => br_f (by decide) (br_f (by decide) (br_t rfl ?_))⟩
  unfold wY_step_122 wY_step_124
  rw [nI_clamp (n := m) (by omega)]
  rcases hs with ⟨h1, h2⟩ | ⟨h1, h2⟩
  · rw [h2] at h ⊢
    exact ⟨w2, br_t h1 (zt_v hN hm hq hv (hy _ (br_f hx (zt_162n (by decide) (zt_188 h)))))⟩
  · rw [h2] at h hy ⊢
    exact ⟨w2, br_f h1 (zt_v hN hm hq hv (hy _ (br_f hx (zt_162n (by decide) (zt_188 h)))))⟩
theorem zt_phiu (hN : N ≤ 32) (hm : m < 2) (hq : q < 32) (hs : (fl m = 0 ∧ a = nI q) ∨ (¬ fl m = 0 ∧ b = nI q)) (hx : yv (32 * m + q) = -1000) {post : SY → Prop} (h : post (ce, ac, nI N, kd, oA, oB, oC, ln, ip, yb, upd sa m 6, pc, oc, bv, fl, yv, el, ou)) :
    wY_step_80 post (nI m) (nI p) 5 a b nx v ar 0 ce ac (nI N) kd oA oB oC ln ip yb sa pc oc bv fl yv el ou := by
  have w2 : vp_in (nI m) 2 := vp_in_nI hm (by omega)
  obtain ⟨y, hy⟩ := zt_any (ce := ce) (ac := ac) (kd := kd) (oA := oA) (oB := oB) (oC := oC) (ln := ln) (ip := ip) (yb := yb) (sa := sa) (pc := pc) (oc := oc) (bv := bv) (fl := fl) (yv := yv) (el := el) (ou := ou) hN hm b
  refine br_f (by decide) (br_f (by decide) (br_t rfl ?_))
  unfold wY_step_122 wY_step_124
  rw [nI_clamp (n := m) (by omega)]
  rcases hs with ⟨h1, h2⟩ | ⟨h1, h2⟩
  · rw [h2]
    exact ⟨w2, br_t h1 (zt_v hN hm hq (Or.inr hx) (hy _ (br_t hx (br_f (by decide) (br_f (by decide) (zt_162n (by decide) (zt_und hm (Or.inl (by decide)) h)))))))⟩
  · rw [h2] at hy ⊢
    exact ⟨w2, br_f h1 (zt_v hN hm hq (Or.inr hx) (hy _ (br_t hx (br_f (by decide) (br_f (by decide) (zt_162n (by decide) (zt_und hm (Or.inl (by decide)) h)))))))⟩
/-- a branch -/
theorem zt_b (hN : N ≤ 32) (hm : m < 2) (h11 : ¬ c = 11) (h12 : ¬ c = 12) (h5 : ¬ c = 5) (hq : q < N) (hq2 : q2 < N) (hx : ¬ yv (32 * m + q) = -1000) (hy : ¬ yv (32 * m + q2) = -1000) {post : SY → Prop}
    (h : wY_step_279 post (nI m) (nI p) c (nI q) (nI q2) nx v ar 1 (yv (32 * m + q)) (yv (32 * m + q2)) 0 ce ac (nI N) kd oA oB oC ln ip yb sa pc oc bv fl yv el ou) : wY_step_80 post (nI m) (nI p) c (nI q) (nI q2) nx v ar 1 ce ac (nI N) kd oA oB oC ln ip yb sa pc oc bv fl yv el ou := by
  refine br_f h11 (br_f h12 (br_f h5 ?_))
  unfold wY_step_122 wY_step_124
  exact zk_y hN hm hq (zk_y hN hm hq2 (br_f hx (br_f hy (zt_188 h))))
theorem zt_bu (hN : N ≤ 32) (hm : m < 2) (h3 : ¬ c < 3) (h13 : ¬ 13 < c) (h11 : ¬ c = 11) (h12 : ¬ c = 12) (h5 : ¬ c = 5) (hq : q < N) (hq2 : q2 < N) (hx : yv (32 * m + q) = -1000 ∨ yv (32 * m + q2) = -1000) {post : SY → Prop}
    (h : post (ce, ac, nI N, kd, oA, oB, oC, ln, ip, yb, upd sa m 6, pc, oc, bv, fl, yv, el, ou)) : wY_step_80 post (nI m) (nI p) c (nI q) (nI q2) nx v ar 1 ce ac (nI N) kd oA oB oC ln ip yb sa pc oc bv fl yv el ou := by
  refine br_f h11 (br_f h12 (br_f h5 ?_))
  unfold wY_step_122 wY_step_124
  refine zk_y hN hm hq (zk_y hN hm hq2 ?_)
  by_cases h1 : yv (32 * m + q) = -1000
  · exact br_t h1 (br_f h3 (br_f h13 (br_c (fun _ => br_f (by decide) (zt_und hm (Or.inl (by decide)) h)) (fun _ => zt_und hm (Or.inl (by decide)) h))))
  · exact br_f h1 (br_t (hx.resolve_left h1) (br_f (by decide) (zt_und hm (Or.inr (by decide)) h)))
/-- an access: its place -/
theorem zt_225 {L : Int32} (hm : m < 2) (hk : kk < 3) (hL : ln kk = L) (h0 : ¬ x < 0) (hl : x < L) {post : SY → Prop} (h : wY_step_279 post (nI m) (nI p) c a b nx v ar 0 x y ((nI m * 3 + nI kk) * 16 + x) ce ac fn kd oA oB oC ln ip yb sa pc oc bv fl yv el ou) :
    wY_step_225 post (nI m) (nI p) c a b nx v ar 0 1 x y (nI kk) ce ac fn kd oA oB oC ln ip yb sa pc oc bv fl yv el ou := by
  have w : vp_in (nI kk) 3 := vp_in_nI hk (by omega)
  unfold wY_step_225
  rw [nI_clamp (n := kk) (by omega), hL]
  exact br_f (by decide) (br_f h0 ⟨w, br_t hl (br_f (by decide) h)⟩)
theorem zt_wild {L : Int32} (hm : m < 2) (hk : kk < 3) (hL : ln kk = L) (h0 : x < 0 ∨ ¬ x < L) {post : SY → Prop} (h : post (ce, ac, fn, kd, oA, oB, oC, ln, ip, yb, upd sa m 8, pc, oc, bv, fl, yv, el, ou)) :
    wY_step_225 post (nI m) (nI p) c a b nx v ar 0 1 x y (nI kk) ce ac fn kd oA oB oC ln ip yb sa pc oc bv fl yv el ou := by
  have w : vp_in (nI kk) 3 := vp_in_nI hk (by omega)
  have w2 : vp_in (nI m) 2 := vp_in_nI hm (by omega)
  unfold wY_step_225
  rw [nI_clamp (n := kk) (by omega), nI_clamp (n := m) (by omega), hL]
  refine br_f (by decide) ?_
  by_cases h1 : x < 0
  · exact br_t h1 ⟨w2, nm_e h⟩
  · exact br_f h1 ⟨w, br_f (h0.resolve_left h1) ⟨w2, nm_e h⟩⟩
theorem zt_188a {post : SY → Prop} (hq : q < 32) (hb : oB q = nI kk) (h : wY_step_225 post (nI m) (nI p) c (nI q) b nx v ar 0 1 x y (nI kk) ce ac fn kd oA oB oC ln ip yb sa pc oc bv fl yv el ou) : wY_step_188 post (nI m) (nI p) c (nI q) b nx v ar 0 1 x y 0 0 ce ac fn kd oA oB oC ln ip yb sa pc oc bv fl yv el ou := by
  have w : vp_in (nI q) 32 := vp_in_nI hq (by omega)
  unfold wY_step_188
  rw [nI_clamp (n := q) (by omega), hb]
  exact br_t rfl (br_t rfl (br_f (by decide) ⟨w, h⟩))
theorem zt_l (hN : N ≤ 32) (hm : m < 2) (hq : q < N) (hb : oB q = nI kk) (hx : ¬ yv (32 * m + q) = -1000) :
    ∃ y : Int32, ∀ post : SY → Prop, wY_step_225 post (nI m) (nI p) 11 (nI q) b nx v ar 0 1 (yv (32 * m + q)) y (nI kk) ce ac (nI N) kd oA oB oC ln ip yb sa pc oc bv fl yv el ou → wY_step_80 post (nI m) (nI p) 11 (nI q) b nx v ar 0 ce ac (nI N) kd oA oB oC ln ip yb sa pc oc bv fl yv el ou := by
  obtain ⟨y, hy⟩ := zt_any (ce := ce) (ac := ac) (kd := kd) (oA := oA) (oB := oB) (oC := oC) (ln := ln) (ip := ip) (yb := yb) (sa := sa) (pc := pc) (oc := oc) (bv := bv) (fl := fl) (yv := yv) (el := el) (ou := ou) hN hm b
  refine ⟨y, fun post h => br_t rfl (br_f (by decide) ?_)⟩
  unfold wY_step_122 wY_step_124
  exact zk_y hN hm hq (hy _ (br_f hx (zt_162n (by decide) (zt_188a (by omega) hb h))))
theorem zt_lu (hN : N ≤ 32) (hm : m < 2) (hq : q < N) (hx : yv (32 * m + q) = -1000) {post : SY → Prop} (h : post (ce, ac, nI N, kd, oA, oB, oC, ln, ip, yb, upd sa m 6, pc, oc, bv, fl, yv, el, ou)) : wY_step_80 post (nI m) (nI p) 11 (nI q) b nx v ar 0 ce ac (nI N) kd oA oB oC ln ip yb sa pc oc bv fl yv el ou := by
  obtain ⟨y, hy⟩ := zt_any (ce := ce) (ac := ac) (kd := kd) (oA := oA) (oB := oB) (oC := oC) (ln := ln) (ip := ip) (yb := yb) (sa := sa) (pc := pc) (oc := oc) (bv := bv) (fl := fl) (yv := yv) (el := el) (ou := ou) hN hm b
  refine br_t rfl (br_f (by decide) ?_)
  unfold wY_step_122 wY_step_124
  exact zk_y hN hm hq (hy _ (br_t hx (br_f (by decide) (br_f (by decide) (zt_162n (by decide) (zt_und hm (Or.inl (by decide)) h))))))
theorem zt_t (hN : N ≤ 32) (hm : m < 2) (hq : q < N) (hq2 : q2 < N) (hb : oB q = nI kk) (hx : ¬ yv (32 * m + q) = -1000) (hy : ¬ yv (32 * m + q2) = -1000) {post : SY → Prop}
    (h : wY_step_225 post (nI m) (nI p) 12 (nI q) (nI q2) nx v ar 0 1 (yv (32 * m + q)) (yv (32 * m + q2)) (nI kk) ce ac (nI N) kd oA oB oC ln ip yb sa pc oc bv fl yv el ou) : wY_step_80 post (nI m) (nI p) 12 (nI q) (nI q2) nx v ar 0 ce ac (nI N) kd oA oB oC ln ip yb sa pc oc bv fl yv el ou := by
  refine br_f (by decide) (br_t rfl (br_f (by decide) ?_))
  unfold wY_step_122 wY_step_124
  exact zk_y hN hm hq (zk_y hN hm hq2 (br_f hx (br_f hy (zt_188a (by omega) hb h))))
theorem zt_tu (hN : N ≤ 32) (hm : m < 2) (hq : q < N) (hq2 : q2 < N) (hx : yv (32 * m + q) = -1000 ∨ yv (32 * m + q2) = -1000) {post : SY → Prop} (h : post (ce, ac, nI N, kd, oA, oB, oC, ln, ip, yb, upd sa m 6, pc, oc, bv, fl, yv, el, ou)) :
    wY_step_80 post (nI m) (nI p) 12 (nI q) (nI q2) nx v ar 0 ce ac (nI N) kd oA oB oC ln ip yb sa pc oc bv fl yv el ou := by
  refine br_f (by decide) (br_t rfl (br_f (by decide) ?_))
  unfold wY_step_122 wY_step_124
  refine zk_y hN hm hq (zk_y hN hm hq2 ?_)
  by_cases h1 : yv (32 * m + q) = -1000
  · exact br_t h1 (br_f (by decide) (br_f (by decide) (br_c (fun _ => br_t rfl (br_t rfl (zt_und hm (Or.inl (by decide)) h))) (fun _ => zt_und hm (Or.inl (by decide)) h))))
  · exact br_f h1 (br_t (hx.resolve_left h1) (br_t rfl (br_t rfl (zt_und hm (Or.inr (by decide)) h))))
/-! the end of a step -/
theorem zt_722 (hm : m < 2) (har : ar = 0 ∨ ar = 1) {post : SY → Prop} (h : post (ce, ac, fn, kd, oA, oB, oC, ln, ip, yb, sa, upd pc m nx, oc, bv, upd fl m ar, yv, el, ou)) : wY_step_722 post (nI m) nx ar ce ac fn kd oA oB oC ln ip yb sa pc oc bv fl yv el ou := by
  have w2 : vp_in (nI m) 2 := vp_in_nI hm (by omega)
  have e : vp_nar .boolean ar = ar := by
    rcases har with rfl | rfl
    · exact qn_vb0
    · exact qn_vb1
  unfold wY_step_722
  rw [nI_clamp (n := m) (by omega), e]
  exact ⟨w2, nm_e ⟨w2, nm_e h⟩⟩
theorem zt_701n (hm : m < 2) (har : ar = 0 ∨ ar = 1) {post : SY → Prop} (h : post (ce, ac, fn, kd, oA, oB, oC, ln, ip, yb, sa, upd pc m nx, oc, bv, upd fl m ar, yv, el, ou)) : wY_step_701 post (nI m) (nI p) nx (-1000) ar ce ac fn kd oA oB oC ln ip yb sa pc oc bv fl yv el ou := br_t rfl (zt_722 hm har h)
theorem zt_701 (hm : m < 2) (hp : p < 32) (hv : -128 ≤ v.toInt) (har : ar = 0 ∨ ar = 1) {post : SY → Prop} (h : post (ce, ac, fn, kd, oA, oB, oC, ln, ip, yb, sa, upd pc m nx, oc, bv, upd fl m ar, upd yv (32 * m + p) v, el, ou)) : wY_step_701 post (nI m) (nI p) nx v ar ce ac fn kd oA oB oC ln ip yb sa pc oc bv fl yv el ou := by
  have w : vp_in (nI (32 * m + p)) 64 := vp_in_nI (by omega) (by omega)
  unfold wY_step_701
  rw [zn_32, nI_clamp (n := 32 * m + p) (by omega)]
  exact br_f (by rw [qn_eq, qn_m1000]; omega) ⟨w, nm_e (zt_722 hm har h)⟩
end ZT
end
section
section ZU
/-! one step of both: kind by kind (written by gen/steps.py) -/
abbrev zu_Out (WX : (SX → Prop) → Prop) (WY : (SY → Prop) → Prop) : Prop := ∃ (u : SX) (v : SY), i_Rel 0 u v ∧ (∀ post : SX → Prop, post u → WX post) ∧ (∀ post : SY → Prop, post v → WY post)
variable {CC AA N m p : Nat}
variable {lg og tp vt iv ce ac fn : Int32} {kd oA oB oC ln ip sa pc fl bh vl el ou oc bv so bd fi fw se sw ts : Nat → Int32}
variable {yb yv : Nat → Int32}
theorem zu_done (R : zz_R CC AA N kd oA oB oC ln ip pc fl bh vl el oc so bd yv) (hm : m < 2) (hpc : pc m = nI p) (hp : N ≤ p) (hp2 : p ≤ 32) :
    zu_Out (fun post => wpX_step post (lg, og, tp, vt, iv, nI CC, nI AA, nI N, kd, oA, oB, oC, ln, ip, sa, pc, fl, bh, vl, el, ou, oc, bv, so, bd, fi, fw, se, sw, ts) (nI m)) (fun post => wpY_step post (nI CC, nI AA, nI N, kd, oA, oB, oC, ln, ip, yb, sa, pc, oc, bv, fl, yv, el, ou) (nI m)) := by
  have w2 : vp_in (nI m) 2 := vp_in_nI hm (by omega)
  refine ⟨(lg, og, tp, vt, iv, nI CC, nI AA, nI N, kd, oA, oB, oC, ln, ip, upd sa m 2, pc, fl, bh, vl, el, ou, oc, bv, so, bd, fi, fw, se, sw, ts), (nI CC, nI AA, nI N, kd, oA, oB, oC, ln, ip, yb, upd sa m 2, pc, oc, bv, fl, yv, el, ou), zz_in R, fun post h => ?_, fun post h => zt_done hm hpc hp hp2 h⟩
  unfold wpX_step
  dsimp only
  rw [nI_clamp (n := m) (by omega)]
  exact ⟨w2, nm_r hpc (br_f (nI_nlt hp (by omega)) ⟨w2, nm_e h⟩)⟩
theorem zu_0 (R : zz_R CC AA N kd oA oB oC ln ip pc fl bh vl el oc so bd yv) (hm : m < 2) (hpc : pc m = nI p) (hp : p < N) (hk : kd p = 0) (h1 : -15 ≤ (oA p).toInt) (h2 : (oA p).toInt ≤ 15) :
    zu_Out (fun post => wpX_step post (lg, og, tp, vt, iv, nI CC, nI AA, nI N, kd, oA, oB, oC, ln, ip, sa, pc, fl, bh, vl, el, ou, oc, bv, so, bd, fi, fw, se, sw, ts) (nI m)) (fun post => wpY_step post (nI CC, nI AA, nI N, kd, oA, oB, oC, ln, ip, yb, sa, pc, oc, bv, fl, yv, el, ou) (nI m)) := by
  have R2 := R
  obtain ⟨⟨c1, c2, c3, c4, c5, c6⟩, hS, hM, hV, hO⟩ := R
  have w2 : vp_in (nI m) 2 := vp_in_nI hm (by omega)
  have w : vp_in (nI p) 32 := vp_in_nI (by omega) (by omega)
  have hN : N ≤ 32 := by omega
  have hp2 : p < 32 := by omega
  obtain ⟨x, y, hY⟩ := zt_p (ce := nI CC) (ac := nI AA) (kd := kd) (oA := oA) (oB := oB) (oC := oC) (ln := ln) (ip := ip) (yb := yb) (sa := sa) (pc := pc) (oc := oc) (bv := bv) (fl := fl) (yv := yv) (el := el) (ou := ou) (c := 0) (p := p) (a := oA p) (b := oB p) (nx := nI (p + 1)) (v := -1000) (ar := 0) hN hm (by decide) (by decide) (by decide) (by decide)
  have hv1 : -128 ≤ (oA p).toInt := by omega
  have hv2 : (oA p).toInt ≤ 127 := by omega
  refine ⟨(lg, og, tp, vt, iv, nI CC, nI AA, nI N, kd, oA, oB, oC, ln, ip, sa, upd pc m (nI (p + 1)), upd fl m 0, upd bh (32 * m + p) 1, upd vl (32 * m + p) (oA p), el, ou, oc, bv, so, bd, fi, fw, se, sw, ts), (nI CC, nI AA, nI N, kd, oA, oB, oC, ln, ip, yb, sa, upd pc m (nI (p + 1)), oc, bv, upd fl m 0, upd yv (32 * m + p) (oA p), el, ou), zz_in ⟨⟨c1, c2, c3, c4, c5, c6⟩, hS, zs_M hM rfl (by omega) (Or.inl rfl), zs_V hV hp hp2 hv1 hv2, hO⟩, fun post h => ?_, fun post h => zt_in hN hm hpc hp hk (by decide) (hY post ?_)⟩
  · unfold wpX_step
    dsimp only
    rw [nI_clamp (n := m) (by omega)]
    refine ⟨w2, nm_r hpc (br_t (nI_lt hp (by omega)) ?_)⟩
    rw [nI_clamp (n := p) (by omega)]
    refine ⟨w, nm_r hk (br_f (by decide) (br_f (by decide) (br_t rfl (?_))))⟩
    exact ⟨w, zs_fin hm hp2 h⟩
  · exact br_t rfl (br_f (by decide) (br_f (by decide) (br_f (by decide) (br_f (by decide) (br_f (by decide) (br_t rfl (br_f (by decide) (br_f (by decide) (br_f (by decide) (br_f (by decide) (br_f (by decide) (zt_701 hm hp2 hv1 (Or.inl rfl) h))))))))))))
theorem zu_1 (R : zz_R CC AA N kd oA oB oC ln ip pc fl bh vl el oc so bd yv) (hm : m < 2) (hpc : pc m = nI p) (hp : p < N) (hk : kd p = 1) {k : Nat} (hkA : k < AA) (ha : oA p = nI k) :
    zu_Out (fun post => wpX_step post (lg, og, tp, vt, iv, nI CC, nI AA, nI N, kd, oA, oB, oC, ln, ip, sa, pc, fl, bh, vl, el, ou, oc, bv, so, bd, fi, fw, se, sw, ts) (nI m)) (fun post => wpY_step post (nI CC, nI AA, nI N, kd, oA, oB, oC, ln, ip, yb, sa, pc, oc, bv, fl, yv, el, ou) (nI m)) := by
  have R2 := R
  obtain ⟨⟨c1, c2, c3, c4, c5, c6⟩, hS, hM, hV, hO⟩ := R
  have w2 : vp_in (nI m) 2 := vp_in_nI hm (by omega)
  have w : vp_in (nI p) 32 := vp_in_nI (by omega) (by omega)
  have hN : N ≤ 32 := by omega
  have hp2 : p < 32 := by omega
  obtain ⟨x, y, hY⟩ := zt_p (ce := nI CC) (ac := nI AA) (kd := kd) (oA := oA) (oB := oB) (oC := oC) (ln := ln) (ip := ip) (yb := yb) (sa := sa) (pc := pc) (oc := oc) (bv := bv) (fl := fl) (yv := yv) (el := el) (ou := ou) (c := 1) (p := p) (a := oA p) (b := oB p) (nx := nI (p + 1)) (v := -1000) (ar := 0) hN hm (by decide) (by decide) (by decide) (by decide)
  have hl := hS.1 k (by omega)
  have hv1 : -128 ≤ (ln k).toInt := by omega
  have hv2 : (ln k).toInt ≤ 127 := by omega
  have w3 : vp_in (nI k) 3 := vp_in_nI (by omega) (by omega)
  refine ⟨(lg, og, tp, vt, iv, nI CC, nI AA, nI N, kd, oA, oB, oC, ln, ip, sa, upd pc m (nI (p + 1)), upd fl m 0, upd bh (32 * m + p) 1, upd vl (32 * m + p) (ln k), el, ou, oc, bv, so, bd, fi, fw, se, sw, ts), (nI CC, nI AA, nI N, kd, oA, oB, oC, ln, ip, yb, sa, upd pc m (nI (p + 1)), oc, bv, upd fl m 0, upd yv (32 * m + p) (ln k), el, ou), zz_in ⟨⟨c1, c2, c3, c4, c5, c6⟩, hS, zs_M hM rfl (by omega) (Or.inl rfl), zs_V hV hp hp2 hv1 hv2, hO⟩, fun post h => ?_, fun post h => zt_in hN hm hpc hp hk (by decide) (hY post ?_)⟩
  · unfold wpX_step
    dsimp only
    rw [nI_clamp (n := m) (by omega)]
    refine ⟨w2, nm_r hpc (br_t (nI_lt hp (by omega)) ?_)⟩
    rw [nI_clamp (n := p) (by omega)]
    refine ⟨w, nm_r hk (br_f (by decide) (br_f (by decide) (br_f (by decide) (br_t rfl (?_)))))⟩
    rw [ha, nI_clamp (n := k) (by omega)]
    exact ⟨w, w3, zs_fin hm hp2 h⟩
  · refine br_f (by decide) (br_t rfl ?_)
    rw [ha, nI_clamp (n := k) (by omega)]
    exact ⟨w3, nm_e (br_f (by decide) (br_f (by decide) (br_f (by decide) (br_f (by decide) (br_t rfl (br_f (by decide) (br_f (by decide) (br_f (by decide) (br_f (by decide) (br_f (by decide) (zt_701 hm hp2 hv1 (Or.inl rfl) h)))))))))))⟩
theorem zu_2 (R : zz_R CC AA N kd oA oB oC ln ip pc fl bh vl el oc so bd yv) (hm : m < 2) (hpc : pc m = nI p) (hp : p < N) (hk : kd p = 2) {k : Nat} (hk4 : k < 4) (ha : oA p = nI k) :
    zu_Out (fun post => wpX_step post (lg, og, tp, vt, iv, nI CC, nI AA, nI N, kd, oA, oB, oC, ln, ip, sa, pc, fl, bh, vl, el, ou, oc, bv, so, bd, fi, fw, se, sw, ts) (nI m)) (fun post => wpY_step post (nI CC, nI AA, nI N, kd, oA, oB, oC, ln, ip, yb, sa, pc, oc, bv, fl, yv, el, ou) (nI m)) := by
  have R2 := R
  obtain ⟨⟨c1, c2, c3, c4, c5, c6⟩, hS, hM, hV, hO⟩ := R
  have w2 : vp_in (nI m) 2 := vp_in_nI hm (by omega)
  have w : vp_in (nI p) 32 := vp_in_nI (by omega) (by omega)
  have hN : N ≤ 32 := by omega
  have hp2 : p < 32 := by omega
  obtain ⟨x, y, hY⟩ := zt_p (ce := nI CC) (ac := nI AA) (kd := kd) (oA := oA) (oB := oB) (oC := oC) (ln := ln) (ip := ip) (yb := yb) (sa := sa) (pc := pc) (oc := oc) (bv := bv) (fl := fl) (yv := yv) (el := el) (ou := ou) (c := 2) (p := p) (a := oA p) (b := oB p) (nx := nI (p + 1)) (v := -1000) (ar := 0) hN hm (by decide) (by decide) (by decide) (by decide)
  have hv1 := (hS.2 k hk4).1
  have hv2 := (hS.2 k hk4).2
  have w3 : vp_in (nI k) 4 := vp_in_nI (by omega) (by omega)
  refine ⟨(lg, og, tp, vt, iv, nI CC, nI AA, nI N, kd, oA, oB, oC, ln, ip, sa, upd pc m (nI (p + 1)), upd fl m 0, upd bh (32 * m + p) 1, upd vl (32 * m + p) (ip k), el, ou, oc, bv, so, bd, fi, fw, se, sw, ts), (nI CC, nI AA, nI N, kd, oA, oB, oC, ln, ip, yb, sa, upd pc m (nI (p + 1)), oc, bv, upd fl m 0, upd yv (32 * m + p) (ip k), el, ou), zz_in ⟨⟨c1, c2, c3, c4, c5, c6⟩, hS, zs_M hM rfl (by omega) (Or.inl rfl), zs_V hV hp hp2 hv1 hv2, hO⟩, fun post h => ?_, fun post h => zt_in hN hm hpc hp hk (by decide) (hY post ?_)⟩
  · unfold wpX_step
    dsimp only
    rw [nI_clamp (n := m) (by omega)]
    refine ⟨w2, nm_r hpc (br_t (nI_lt hp (by omega)) ?_)⟩
    rw [nI_clamp (n := p) (by omega)]
    refine ⟨w, nm_r hk (br_f (by decide) (br_f (by decide) (br_f (by decide) (br_f (by decide) (br_t rfl (?_))))))⟩
    rw [ha, nI_clamp (n := k) (by omega)]
    exact ⟨w, w3, zs_fin hm hp2 h⟩
  · refine br_f (by decide) (br_f (by decide) (br_t rfl ?_))
    rw [ha, nI_clamp (n := k) (by omega)]
    exact ⟨w3, nm_e (br_f (by decide) (br_f (by decide) (br_f (by decide) (br_t rfl (br_f (by decide) (br_f (by decide) (br_f (by decide) (br_f (by decide) (br_f (by decide) (zt_701 hm hp2 hv1 (Or.inl rfl) h))))))))))⟩
theorem zu_14 (R : zz_R CC AA N kd oA oB oC ln ip pc fl bh vl el oc so bd yv) (hm : m < 2) (hpc : pc m = nI p) (hp : p < N) (hk : kd p = 14) {q : Nat} (hq : q ≤ CC) (ha : oA p = nI q) :
    zu_Out (fun post => wpX_step post (lg, og, tp, vt, iv, nI CC, nI AA, nI N, kd, oA, oB, oC, ln, ip, sa, pc, fl, bh, vl, el, ou, oc, bv, so, bd, fi, fw, se, sw, ts) (nI m)) (fun post => wpY_step post (nI CC, nI AA, nI N, kd, oA, oB, oC, ln, ip, yb, sa, pc, oc, bv, fl, yv, el, ou) (nI m)) := by
  have R2 := R
  obtain ⟨⟨c1, c2, c3, c4, c5, c6⟩, hS, hM, hV, hO⟩ := R
  have w2 : vp_in (nI m) 2 := vp_in_nI hm (by omega)
  have w : vp_in (nI p) 32 := vp_in_nI (by omega) (by omega)
  have hN : N ≤ 32 := by omega
  have hp2 : p < 32 := by omega
  obtain ⟨x, y, hY⟩ := zt_p (ce := nI CC) (ac := nI AA) (kd := kd) (oA := oA) (oB := oB) (oC := oC) (ln := ln) (ip := ip) (yb := yb) (sa := sa) (pc := pc) (oc := oc) (bv := bv) (fl := fl) (yv := yv) (el := el) (ou := ou) (c := 14) (p := p) (a := oA p) (b := oB p) (nx := nI (p + 1)) (v := -1000) (ar := 0) hN hm (by decide) (by decide) (by decide) (by decide)
  refine ⟨(lg, og, tp, vt, iv, nI CC, nI AA, nI N, kd, oA, oB, oC, ln, ip, sa, upd pc m (oA p), upd fl m 1, bh, vl, el, ou, oc, bv, so, bd, fi, fw, se, sw, ts), (nI CC, nI AA, nI N, kd, oA, oB, oC, ln, ip, yb, sa, upd pc m (oA p), oc, bv, upd fl m 1, yv, el, ou), zz_in ⟨⟨c1, c2, c3, c4, c5, c6⟩, hS, zs_M hM ha (by omega) (Or.inr rfl), hV, hO⟩, fun post h => ?_, fun post h => zt_in hN hm hpc hp hk (by decide) (hY post ?_)⟩
  · unfold wpX_step
    dsimp only
    rw [nI_clamp (n := m) (by omega)]
    refine ⟨w2, nm_r hpc (br_t (nI_lt hp (by omega)) ?_)⟩
    rw [nI_clamp (n := p) (by omega)]
    refine ⟨w, nm_r hk (br_f (by decide) (br_f (by decide) (br_f (by decide) (br_f (by decide) (br_f (by decide) (br_f (by decide) (br_f (by decide) (br_f (by decide) (br_f (by decide) (br_f (by decide) (br_f (by decide) (br_f (by decide) (br_f (by decide) (br_f (by decide) (br_f (by decide) (br_f (by decide) (br_t rfl (?_))))))))))))))))))⟩
    exact ⟨w, zs_leap hm h⟩
  · exact br_f (by decide) (br_f (by decide) (br_f (by decide) (br_f (by decide) (br_f (by decide) (br_f (by decide) (br_t rfl (br_f (by decide) (br_f (by decide) (br_f (by decide) (br_f (by decide) (br_t rfl (zt_701n hm (Or.inr rfl) h))))))))))))
theorem zu_3 (R : zz_R CC AA N kd oA oB oC ln ip pc fl bh vl el oc so bd yv) (hm : m < 2) (hpc : pc m = nI p) (hp : p < N) (hk : kd p = 3) {q : Nat} (hq : q < p) (ha : oA p = nI q) (hb1 : -4 ≤ (oB p).toInt) (hb2 : (oB p).toInt ≤ 4) :
    zu_Out (fun post => wpX_step post (lg, og, tp, vt, iv, nI CC, nI AA, nI N, kd, oA, oB, oC, ln, ip, sa, pc, fl, bh, vl, el, ou, oc, bv, so, bd, fi, fw, se, sw, ts) (nI m)) (fun post => wpY_step post (nI CC, nI AA, nI N, kd, oA, oB, oC, ln, ip, yb, sa, pc, oc, bv, fl, yv, el, ou) (nI m)) := by
  have R2 := R
  obtain ⟨⟨c1, c2, c3, c4, c5, c6⟩, hS, hM, hV, hO⟩ := R
  have w2 : vp_in (nI m) 2 := vp_in_nI hm (by omega)
  have w : vp_in (nI p) 32 := vp_in_nI (by omega) (by omega)
  have hN : N ≤ 32 := by omega
  have hp2 : p < 32 := by omega
  have hq2 : q < 32 := by omega
  have wq : vp_in (nI (32 * m + q)) 64 := vp_in_nI (by omega) (by omega)
  rcases hV m q hm hq2 with ⟨e1, e2⟩ | ⟨e1, _, e3, e4, e5⟩
  · refine ⟨(lg, og, tp, vt, iv, nI CC, nI AA, nI N, kd, oA, oB, oC, ln, ip, upd sa m 6, pc, fl, bh, vl, el, ou, oc, bv, so, bd, fi, fw, se, sw, ts), (nI CC, nI AA, nI N, kd, oA, oB, oC, ln, ip, yb, upd sa m 6, pc, oc, bv, fl, yv, el, ou), zz_in R2, fun post h => ?_, fun post h => ?_⟩
    · unfold wpX_step
      dsimp only
      rw [nI_clamp (n := m) (by omega)]
      refine ⟨w2, nm_r hpc (br_t (nI_lt hp (by omega)) ?_)⟩
      rw [nI_clamp (n := p) (by omega)]
      refine ⟨w, nm_r hk (br_f (by decide) (br_f (by decide) (br_f (by decide) (br_f (by decide) (br_f (by decide) (br_t rfl (?_)))))))⟩
      unfold wX_step_159 wpX_stepSum
      dsimp only
      rw [nI_clamp (n := p) (by omega), ha]
      exact ⟨w, zs_lack1 hm hq2 e1 (br_f (by decide) h)⟩
    · refine zt_in hN hm hpc hp hk (by decide) ?_
      rw [ha]
      exact zt_su hN hm (by decide) (by decide) (by decide) (by decide) (by decide) (by omega) e2 h
  · have hne : ¬ yv (32 * m + q) = -1000 := by rw [e3, qn_eq, qn_m1000]; omega
    obtain ⟨y, hY⟩ := zt_s (ce := nI CC) (ac := nI AA) (kd := kd) (oA := oA) (oB := oB) (oC := oC) (ln := ln) (ip := ip) (yb := yb) (sa := sa) (pc := pc) (oc := oc) (bv := bv) (fl := fl) (yv := yv) (el := el) (ou := ou) (c := 3) (p := p) (b := oB p) (nx := nI (p + 1)) (v := -1000) (ar := 0) (q := q) hN hm (by decide) (by decide) (by decide) (by omega) hne
    have hsum := qn_add (x := vl (32 * m + q)) (y := oB p) rfl rfl (by omega) (by omega)
    have esum : yv (32 * m + q) + oB p = vl (32 * m + q) + oB p := by rw [e3]
    generalize hr : vl (32 * m + q) + oB p = r at hsum esum
    by_cases hlo : r < -128
    · refine ⟨(lg, og, tp, vt, iv, nI CC, nI AA, nI N, kd, oA, oB, oC, ln, ip, upd sa m 5, pc, fl, bh, vl, el, ou, oc, bv, so, bd, fi, fw, se, sw, ts), (nI CC, nI AA, nI N, kd, oA, oB, oC, ln, ip, yb, upd sa m 5, pc, oc, bv, fl, yv, el, ou), zz_in R2, fun post h => ?_, fun post h => zt_in hN hm hpc hp hk (by decide) ?_⟩
      · unfold wpX_step
        dsimp only
        rw [nI_clamp (n := m) (by omega)]
        refine ⟨w2, nm_r hpc (br_t (nI_lt hp (by omega)) ?_)⟩
        rw [nI_clamp (n := p) (by omega)]
        refine ⟨w, nm_r hk (br_f (by decide) (br_f (by decide) (br_f (by decide) (br_f (by decide) (br_f (by decide) (br_t rfl (?_)))))))⟩
        unfold wX_step_159 wpX_stepSum
        dsimp only
        rw [nI_clamp (n := p) (by omega), ha]
        refine ⟨w, zs_lack0 hm hq2 e1 ?_⟩
        dsimp only
        rw [ha, zn_32, nI_clamp (n := 32 * m + q) (by omega), nI_clamp (n := m) (by omega), hr, hk]
        exact br_t rfl ⟨w, wq, w, nm_e ⟨w, br_t rfl (zx_w0 (Or.inl hlo) (br_t rfl ⟨w2, nm_e h⟩))⟩⟩
      · rw [ha]
        refine hY post (br_f (by decide) (br_f (by decide) (br_f (by decide) (br_t rfl (nm_r esum (br_t hlo ?_))))))
        rw [nI_clamp (n := m) (by omega)]
        exact ⟨w2, nm_e h⟩
    · by_cases hhi : 127 < r
      · refine ⟨(lg, og, tp, vt, iv, nI CC, nI AA, nI N, kd, oA, oB, oC, ln, ip, upd sa m 5, pc, fl, bh, vl, el, ou, oc, bv, so, bd, fi, fw, se, sw, ts), (nI CC, nI AA, nI N, kd, oA, oB, oC, ln, ip, yb, upd sa m 5, pc, oc, bv, fl, yv, el, ou), zz_in R2, fun post h => ?_, fun post h => zt_in hN hm hpc hp hk (by decide) ?_⟩
        · unfold wpX_step
          dsimp only
          rw [nI_clamp (n := m) (by omega)]
          refine ⟨w2, nm_r hpc (br_t (nI_lt hp (by omega)) ?_)⟩
          rw [nI_clamp (n := p) (by omega)]
          refine ⟨w, nm_r hk (br_f (by decide) (br_f (by decide) (br_f (by decide) (br_f (by decide) (br_f (by decide) (br_t rfl (?_)))))))⟩
          unfold wX_step_159 wpX_stepSum
          dsimp only
          rw [nI_clamp (n := p) (by omega), ha]
          refine ⟨w, zs_lack0 hm hq2 e1 ?_⟩
          dsimp only
          rw [ha, zn_32, nI_clamp (n := 32 * m + q) (by omega), nI_clamp (n := m) (by omega), hr, hk]
          exact br_t rfl ⟨w, wq, w, nm_e ⟨w, br_t rfl (zx_w0 (Or.inr hhi) (br_t rfl ⟨w2, nm_e h⟩))⟩⟩
        · rw [ha]
          refine hY post (br_f (by decide) (br_f (by decide) (br_f (by decide) (br_t rfl (nm_r esum (br_f hlo (br_f (Int32.not_le.mpr hhi) ?_)))))))
          rw [nI_clamp (n := m) (by omega)]
          exact ⟨w2, nm_e h⟩
      · have hv1 : -128 ≤ r.toInt := by rw [qn_lt, qn_m128] at hlo; omega
        have hv2 : r.toInt ≤ 127 := by rw [qn_lt, qn_127] at hhi; omega
        refine ⟨(lg, og, tp, vt, iv, nI CC, nI AA, nI N, kd, oA, oB, oC, ln, ip, sa, upd pc m (nI (p + 1)), upd fl m 0, upd bh (32 * m + p) 1, upd vl (32 * m + p) (r), el, ou, oc, bv, so, bd, fi, fw, se, sw, ts), (nI CC, nI AA, nI N, kd, oA, oB, oC, ln, ip, yb, sa, upd pc m (nI (p + 1)), oc, bv, upd fl m 0, upd yv (32 * m + p) (r), el, ou), zz_in ⟨⟨c1, c2, c3, c4, c5, c6⟩, hS, zs_M hM rfl (by omega) (Or.inl rfl), zs_V hV hp hp2 hv1 hv2, hO⟩, fun post h => ?_, fun post h => zt_in hN hm hpc hp hk (by decide) ?_⟩
        · unfold wpX_step
          dsimp only
          rw [nI_clamp (n := m) (by omega)]
          refine ⟨w2, nm_r hpc (br_t (nI_lt hp (by omega)) ?_)⟩
          rw [nI_clamp (n := p) (by omega)]
          refine ⟨w, nm_r hk (br_f (by decide) (br_f (by decide) (br_f (by decide) (br_f (by decide) (br_f (by decide) (br_t rfl (?_)))))))⟩
          unfold wX_step_159 wpX_stepSum
          dsimp only
          rw [nI_clamp (n := p) (by omega), ha]
          refine ⟨w, zs_lack0 hm hq2 e1 ?_⟩
          dsimp only
          rw [ha, zn_32, nI_clamp (n := 32 * m + q) (by omega), nI_clamp (n := m) (by omega), hr, hk]
          exact br_t rfl ⟨w, wq, w, nm_e ⟨w, br_t rfl (zx_w (Int32.not_lt.mp hlo) (Int32.not_lt.mp hhi) (br_f (by decide) (br_t (Int32.not_lt.mp hhi) (br_t (Int32.not_lt.mp hlo) (zs_fin hm hp2 h)))))⟩⟩
        · rw [ha]
          exact hY post (br_f (by decide) (br_f (by decide) (br_f (by decide) (br_t rfl (nm_r esum (br_f hlo (br_t (Int32.not_lt.mp hhi) (br_f (by decide) (br_f (by decide) (br_t rfl (br_f (by decide) (br_f (by decide) (br_f (by decide) (br_f (by decide) (br_f (by decide) (zt_701 hm hp2 hv1 (Or.inl rfl) h))))))))))))))))
theorem zu_4 (R : zz_R CC AA N kd oA oB oC ln ip pc fl bh vl el oc so bd yv) (hm : m < 2) (hpc : pc m = nI p) (hp : p < N) (hk : kd p = 4) {q : Nat} (hq : q < p) (ha : oA p = nI q) (hb1 : -4 ≤ (oB p).toInt) (hb2 : (oB p).toInt ≤ 4) :
    zu_Out (fun post => wpX_step post (lg, og, tp, vt, iv, nI CC, nI AA, nI N, kd, oA, oB, oC, ln, ip, sa, pc, fl, bh, vl, el, ou, oc, bv, so, bd, fi, fw, se, sw, ts) (nI m)) (fun post => wpY_step post (nI CC, nI AA, nI N, kd, oA, oB, oC, ln, ip, yb, sa, pc, oc, bv, fl, yv, el, ou) (nI m)) := by
  have R2 := R
  obtain ⟨⟨c1, c2, c3, c4, c5, c6⟩, hS, hM, hV, hO⟩ := R
  have w2 : vp_in (nI m) 2 := vp_in_nI hm (by omega)
  have w : vp_in (nI p) 32 := vp_in_nI (by omega) (by omega)
  have hN : N ≤ 32 := by omega
  have hp2 : p < 32 := by omega
  have hq2 : q < 32 := by omega
  have wq : vp_in (nI (32 * m + q)) 64 := vp_in_nI (by omega) (by omega)
  rcases hV m q hm hq2 with ⟨e1, e2⟩ | ⟨e1, _, e3, e4, e5⟩
  · refine ⟨(lg, og, tp, vt, iv, nI CC, nI AA, nI N, kd, oA, oB, oC, ln, ip, upd sa m 6, pc, fl, bh, vl, el, ou, oc, bv, so, bd, fi, fw, se, sw, ts), (nI CC, nI AA, nI N, kd, oA, oB, oC, ln, ip, yb, upd sa m 6, pc, oc, bv, fl, yv, el, ou), zz_in R2, fun post h => ?_, fun post h => ?_⟩
    · unfold wpX_step
      dsimp only
      rw [nI_clamp (n := m) (by omega)]
      refine ⟨w2, nm_r hpc (br_t (nI_lt hp (by omega)) ?_)⟩
      rw [nI_clamp (n := p) (by omega)]
      refine ⟨w, nm_r hk (br_f (by decide) (br_f (by decide) (br_f (by decide) (br_f (by decide) (br_f (by decide) (br_f (by decide) (br_t rfl (?_))))))))⟩
      unfold wX_step_159 wpX_stepSum
      dsimp only
      rw [nI_clamp (n := p) (by omega), ha]
      exact ⟨w, zs_lack1 hm hq2 e1 (br_f (by decide) h)⟩
    · refine zt_in hN hm hpc hp hk (by decide) ?_
      rw [ha]
      exact zt_su hN hm (by decide) (by decide) (by decide) (by decide) (by decide) (by omega) e2 h
  · have hne : ¬ yv (32 * m + q) = -1000 := by rw [e3, qn_eq, qn_m1000]; omega
    obtain ⟨y, hY⟩ := zt_s (ce := nI CC) (ac := nI AA) (kd := kd) (oA := oA) (oB := oB) (oC := oC) (ln := ln) (ip := ip) (yb := yb) (sa := sa) (pc := pc) (oc := oc) (bv := bv) (fl := fl) (yv := yv) (el := el) (ou := ou) (c := 4) (p := p) (b := oB p) (nx := nI (p + 1)) (v := -1000) (ar := 0) (q := q) hN hm (by decide) (by decide) (by decide) (by omega) hne
    have hsum := qn_add (x := vl (32 * m + q)) (y := oB p) rfl rfl (by omega) (by omega)
    have esum : yv (32 * m + q) + oB p = vl (32 * m + q) + oB p := by rw [e3]
    generalize hr : vl (32 * m + q) + oB p = r at hsum esum
    by_cases hhi : 127 < r
    · have hs2 := qn_add (x := r) (y := -256) rfl (show (-256 : Int32).toInt = -256 from by decide) (by rw [qn_lt, qn_127] at hhi; omega) (by omega)
      rw [qn_lt, qn_127] at hhi
      have n1 : ¬ r ≤ 127 := by rw [qn_le, qn_127]; omega
      have n2 : -128 ≤ r + (-256) := by rw [qn_le, qn_m128, hs2]; omega
      have hv1 : -128 ≤ (r + (-256)).toInt := by rw [hs2]; omega
      have hv2 : (r + (-256)).toInt ≤ 127 := by rw [hs2]; omega
      refine ⟨(lg, og, tp, vt, iv, nI CC, nI AA, nI N, kd, oA, oB, oC, ln, ip, sa, upd pc m (nI (p + 1)), upd fl m 0, upd bh (32 * m + p) 1, upd vl (32 * m + p) (r + (-256)), el, ou, oc, bv, so, bd, fi, fw, se, sw, ts), (nI CC, nI AA, nI N, kd, oA, oB, oC, ln, ip, yb, sa, upd pc m (nI (p + 1)), oc, bv, upd fl m 0, upd yv (32 * m + p) (r + (-256)), el, ou), zz_in ⟨⟨c1, c2, c3, c4, c5, c6⟩, hS, zs_M hM rfl (by omega) (Or.inl rfl), zs_V hV hp hp2 hv1 hv2, hO⟩, fun post h => ?_, fun post h => zt_in hN hm hpc hp hk (by decide) ?_⟩
      · unfold wpX_step
        dsimp only
        rw [nI_clamp (n := m) (by omega)]
        refine ⟨w2, nm_r hpc (br_t (nI_lt hp (by omega)) ?_)⟩
        rw [nI_clamp (n := p) (by omega)]
        refine ⟨w, nm_r hk (br_f (by decide) (br_f (by decide) (br_f (by decide) (br_f (by decide) (br_f (by decide) (br_f (by decide) (br_t rfl (?_))))))))⟩
        unfold wX_step_159 wpX_stepSum
        dsimp only
        rw [nI_clamp (n := p) (by omega), ha]
        refine ⟨w, zs_lack0 hm hq2 e1 ?_⟩
        dsimp only
        rw [ha, zn_32, nI_clamp (n := 32 * m + q) (by omega), nI_clamp (n := m) (by omega), hr, hk]
        exact br_t rfl ⟨w, wq, w, nm_e ⟨w, br_f (by decide) (br_f n1 (nm_e (br_t n2 (zs_fin hm hp2 h))))⟩⟩
      · rw [ha]
        exact hY post (br_f (by decide) (br_f (by decide) (br_f (by decide) (br_f (by decide) (br_t rfl (nm_r esum (br_f n1 (nm_e (br_t n2 (br_f (by decide) (br_t rfl (br_f (by decide) (br_f (by decide) (br_f (by decide) (br_f (by decide) (br_f (by decide) (zt_701 hm hp2 hv1 (Or.inl rfl) h)))))))))))))))))
    · by_cases hlo : r < -128
      · have hs2 := qn_add (x := r) (y := 256) rfl (show (256 : Int32).toInt = 256 from by decide) (by omega) (by rw [qn_lt, qn_m128] at hlo; omega)
        rw [qn_lt, qn_127] at hhi
        rw [qn_lt, qn_m128] at hlo
        have n1 : r ≤ 127 := by rw [qn_le, qn_127]; omega
        have n2 : ¬ -128 ≤ r := by rw [qn_le, qn_m128]; omega
        have hv1 : -128 ≤ (r + 256).toInt := by rw [hs2]; omega
        have hv2 : (r + 256).toInt ≤ 127 := by rw [hs2]; omega
        refine ⟨(lg, og, tp, vt, iv, nI CC, nI AA, nI N, kd, oA, oB, oC, ln, ip, sa, upd pc m (nI (p + 1)), upd fl m 0, upd bh (32 * m + p) 1, upd vl (32 * m + p) (r + 256), el, ou, oc, bv, so, bd, fi, fw, se, sw, ts), (nI CC, nI AA, nI N, kd, oA, oB, oC, ln, ip, yb, sa, upd pc m (nI (p + 1)), oc, bv, upd fl m 0, upd yv (32 * m + p) (r + 256), el, ou), zz_in ⟨⟨c1, c2, c3, c4, c5, c6⟩, hS, zs_M hM rfl (by omega) (Or.inl rfl), zs_V hV hp hp2 hv1 hv2, hO⟩, fun post h => ?_, fun post h => zt_in hN hm hpc hp hk (by decide) ?_⟩
        · unfold wpX_step
          dsimp only
          rw [nI_clamp (n := m) (by omega)]
          refine ⟨w2, nm_r hpc (br_t (nI_lt hp (by omega)) ?_)⟩
          rw [nI_clamp (n := p) (by omega)]
          refine ⟨w, nm_r hk (br_f (by decide) (br_f (by decide) (br_f (by decide) (br_f (by decide) (br_f (by decide) (br_f (by decide) (br_t rfl (?_))))))))⟩
          unfold wX_step_159 wpX_stepSum
          dsimp only
          rw [nI_clamp (n := p) (by omega), ha]
          refine ⟨w, zs_lack0 hm hq2 e1 ?_⟩
          dsimp only
          rw [ha, zn_32, nI_clamp (n := 32 * m + q) (by omega), nI_clamp (n := m) (by omega), hr, hk]
          exact br_t rfl ⟨w, wq, w, nm_e ⟨w, br_f (by decide) (br_t n1 (br_f n2 (nm_e (zs_fin hm hp2 h))))⟩⟩
        · rw [ha]
          exact hY post (br_f (by decide) (br_f (by decide) (br_f (by decide) (br_f (by decide) (br_t rfl (nm_r esum (br_t n1 (br_f n2 (nm_e (br_f (by decide) (br_t rfl (br_f (by decide) (br_f (by decide) (br_f (by decide) (br_f (by decide) (br_f (by decide) (zt_701 hm hp2 hv1 (Or.inl rfl) h)))))))))))))))))
      · have n1 : r ≤ 127 := Int32.not_lt.mp hhi
        have n2 : -128 ≤ r := Int32.not_lt.mp hlo
        have hv1 : -128 ≤ r.toInt := by rw [qn_lt, qn_m128] at hlo; omega
        have hv2 : r.toInt ≤ 127 := by rw [qn_lt, qn_127] at hhi; omega
        refine ⟨(lg, og, tp, vt, iv, nI CC, nI AA, nI N, kd, oA, oB, oC, ln, ip, sa, upd pc m (nI (p + 1)), upd fl m 0, upd bh (32 * m + p) 1, upd vl (32 * m + p) (r), el, ou, oc, bv, so, bd, fi, fw, se, sw, ts), (nI CC, nI AA, nI N, kd, oA, oB, oC, ln, ip, yb, sa, upd pc m (nI (p + 1)), oc, bv, upd fl m 0, upd yv (32 * m + p) (r), el, ou), zz_in ⟨⟨c1, c2, c3, c4, c5, c6⟩, hS, zs_M hM rfl (by omega) (Or.inl rfl), zs_V hV hp hp2 hv1 hv2, hO⟩, fun post h => ?_, fun post h => zt_in hN hm hpc hp hk (by decide) ?_⟩
        · unfold wpX_step
          dsimp only
          rw [nI_clamp (n := m) (by omega)]
          refine ⟨w2, nm_r hpc (br_t (nI_lt hp (by omega)) ?_)⟩
          rw [nI_clamp (n := p) (by omega)]
          refine ⟨w, nm_r hk (br_f (by decide) (br_f (by decide) (br_f (by decide) (br_f (by decide) (br_f (by decide) (br_f (by decide) (br_t rfl (?_))))))))⟩
          unfold wX_step_159 wpX_stepSum
          dsimp only
          rw [nI_clamp (n := p) (by omega), ha]
          refine ⟨w, zs_lack0 hm hq2 e1 ?_⟩
          dsimp only
          rw [ha, zn_32, nI_clamp (n := 32 * m + q) (by omega), nI_clamp (n := m) (by omega), hr, hk]
          exact br_t rfl ⟨w, wq, w, nm_e ⟨w, br_f (by decide) (br_t n1 (br_t n2 (zs_fin hm hp2 h)))⟩⟩
        · rw [ha]
          exact hY post (br_f (by decide) (br_f (by decide) (br_f (by decide) (br_f (by decide) (br_t rfl (nm_r esum (br_t n1 (br_t n2 (br_f (by decide) (br_t rfl (br_f (by decide) (br_f (by decide) (br_f (by decide) (br_f (by decide) (br_f (by decide) (zt_701 hm hp2 hv1 (Or.inl rfl) h))))))))))))))))
theorem zu_5 (R : zz_R CC AA N kd oA oB oC ln ip pc fl bh vl el oc so bd yv) (hm : m < 2) (hpc : pc m = nI p) (hp : p < N) (hk : kd p = 5) {qa qb : Nat} (hqa : qa < p) (ha : oA p = nI qa) (hqb : qb < CC) (hb : oB p = nI qb) :
    zu_Out (fun post => wpX_step post (lg, og, tp, vt, iv, nI CC, nI AA, nI N, kd, oA, oB, oC, ln, ip, sa, pc, fl, bh, vl, el, ou, oc, bv, so, bd, fi, fw, se, sw, ts) (nI m)) (fun post => wpY_step post (nI CC, nI AA, nI N, kd, oA, oB, oC, ln, ip, yb, sa, pc, oc, bv, fl, yv, el, ou) (nI m)) := by
  have R2 := R
  obtain ⟨⟨c1, c2, c3, c4, c5, c6⟩, hS, hM, hV, hO⟩ := R
  have w2 : vp_in (nI m) 2 := vp_in_nI hm (by omega)
  have w : vp_in (nI p) 32 := vp_in_nI (by omega) (by omega)
  have hN : N ≤ 32 := by omega
  have hp2 : p < 32 := by omega
  obtain ⟨_, hf, _⟩ := hM.1 m hm
  obtain ⟨q, hq2, hsrc⟩ : ∃ q, q < 32 ∧ ((fl m = 0 ∧ oA p = nI q) ∨ (¬ fl m = 0 ∧ oB p = nI q)) := by
    by_cases hz : fl m = 0
    · exact ⟨qa, by omega, Or.inl ⟨hz, ha⟩⟩
    · exact ⟨qb, by omega, Or.inr ⟨hz, hb⟩⟩
  have wq : vp_in (nI (32 * m + q)) 64 := vp_in_nI (by omega) (by omega)
  have xin : ∀ post : SX → Prop, wX_stepPhi_24 (fun u => match u with | (lg, og, tp, vt, iv, ce, ac, fn, kd, oA, oB, oC, ln, ip, sa, pc, fl, bh, vl, el, ou, oc, bv, so, bd, fi, fw, se, sw, ts) => post (lg, og, tp, vt, iv, ce, ac, fn, kd, oA, oB, oC, ln, ip, sa, pc, fl, bh, vl, el, ou, oc, bv, so, bd, fi, fw, se, sw, ts)) (nI m) (nI p) (nI q) lg og tp vt iv (nI CC) (nI AA) (nI N) kd oA oB oC ln ip sa pc fl bh vl el ou oc bv so bd fi fw se sw ts → wpX_step post (lg, og, tp, vt, iv, nI CC, nI AA, nI N, kd, oA, oB, oC, ln, ip, sa, pc, fl, bh, vl, el, ou, oc, bv, so, bd, fi, fw, se, sw, ts) (nI m) := by
    intro post h
    unfold wpX_step
    dsimp only
    rw [nI_clamp (n := m) (by omega)]
    refine ⟨w2, nm_r hpc (br_t (nI_lt hp (by omega)) ?_)⟩
    rw [nI_clamp (n := p) (by omega)]
    refine ⟨w, nm_r hk (br_f (by decide) (br_f (by decide) (br_f (by decide) (br_f (by decide) (br_f (by decide) (br_f (by decide) (br_f (by decide) (br_t rfl (?_)))))))))⟩
    unfold wpX_stepPhi
    dsimp only
    rw [nI_clamp (n := m) (by omega), nI_clamp (n := p) (by omega)]
    rcases hsrc with ⟨s1, s2⟩ | ⟨s1, s2⟩
    · rw [s2]; exact ⟨w2, br_t s1 ⟨w, h⟩⟩
    · rw [s2]; exact ⟨w2, br_f s1 ⟨w, h⟩⟩
  rcases hV m q hm hq2 with ⟨e1, e2⟩ | ⟨e1, e6, e3, e4, e5⟩
  · refine ⟨(lg, og, tp, vt, iv, nI CC, nI AA, nI N, kd, oA, oB, oC, ln, ip, upd sa m 6, pc, fl, bh, vl, el, ou, oc, bv, so, bd, fi, fw, se, sw, ts), (nI CC, nI AA, nI N, kd, oA, oB, oC, ln, ip, yb, upd sa m 6, pc, oc, bv, fl, yv, el, ou), zz_in R2, fun post h => ?_, fun post h => ?_⟩
    · refine xin post ?_
      unfold wX_stepPhi_24
      exact zs_lack1 hm hq2 e1 (br_f (by decide) h)
    · exact zt_in hN hm hpc hp hk (by decide) (zt_phiu hN hm hq2 hsrc e2 h)
  · have hne : ¬ yv (32 * m + q) = -1000 := by rw [e3, qn_eq, qn_m1000]; omega
    obtain ⟨y, hY⟩ := zt_phi (ce := nI CC) (ac := nI AA) (kd := kd) (oA := oA) (oB := oB) (oC := oC) (ln := ln) (ip := ip) (yb := yb) (sa := sa) (pc := pc) (oc := oc) (bv := bv) (fl := fl) (yv := yv) (el := el) (ou := ou) (p := p) (a := oA p) (b := oB p) (nx := nI (p + 1)) (v := -1000) (ar := 0) (q := q) hN hm hq2 (Or.inl e6) hsrc hne
    have hM2 := zs_M (m := m) (y := fl m) hM (x := nI (p + 1)) rfl (by omega) hf
    rw [zs_id] at hM2
    rw [e3] at hY
    refine ⟨(lg, og, tp, vt, iv, nI CC, nI AA, nI N, kd, oA, oB, oC, ln, ip, sa, upd pc m (nI (p + 1)), fl, upd bh (32 * m + p) 1, upd vl (32 * m + p) (vl (32 * m + q)), el, ou, oc, bv, so, bd, fi, fw, se, sw, ts), (nI CC, nI AA, nI N, kd, oA, oB, oC, ln, ip, yb, sa, upd pc m (nI (p + 1)), oc, bv, fl, upd yv (32 * m + p) (vl (32 * m + q)), el, ou), zz_in ⟨⟨c1, c2, c3, c4, c5, c6⟩, hS, hM2, zs_V hV hp hp2 e4 e5, hO⟩, fun post h => xin post ?_, fun post h => zt_in hN hm hpc hp hk (by decide) (hY post ?_)⟩
    · unfold wX_stepPhi_24
      rw [zn_32, nI_clamp (n := 32 * m + q) (by omega), nI_clamp (n := m) (by omega), nI_1]
      exact zs_lack0 hm hq2 e1 (br_t rfl ⟨wq, zs_set hm hp2 ⟨w2, nm_e h⟩⟩)
    · have h2 : wY_step_701 post (nI m) (nI p) (nI (p + 1)) (vl (32 * m + q)) (fl m) (nI CC) (nI AA) (nI N) kd oA oB oC ln ip yb sa pc oc bv fl yv el ou := zt_701 hm hp2 e4 hf (by rw [zs_id]; exact h)
      refine br_f (by decide) (br_f (by decide) (br_f (by decide) (br_f (by decide) (br_f (by decide) (br_t rfl ?_)))))
      rw [nI_clamp (n := m) (by omega)]
      exact ⟨w2, nm_e (br_t rfl (br_f (by decide) (br_f (by decide) (br_f (by decide) (br_f (by decide) (br_f (by decide) (h2)))))))⟩
end ZU
end
section
section ZW
/-! one step of both: kinds 6 .. 13 (written by gen/steps2.py) -/
variable {CC AA N m p : Nat}
variable {lg og tp vt iv ce ac fn : Int32} {kd oA oB oC ln ip sa pc fl bh vl el ou oc bv so bd fi fw se sw ts : Nat → Int32}
variable {yb yv : Nat → Int32}
theorem zw_Mel {i : Nat} {v : Int32} (hM : zz_M pc fl oc el) (h1 : -128 ≤ v.toInt) (h2 : v.toInt ≤ 127) : zz_M pc fl oc (upd el i v) := by
  refine ⟨hM.1, fun j hj => ?_⟩
  by_cases e : j = i
  · subst e; rw [pk_us]; exact ⟨h1, h2⟩
  · rw [pk_un e]; exact hM.2 j hj
theorem zw_Moc {Q : Nat} {x : Int32} (hM : zz_M pc fl oc el) (hx : x = nI Q) (hQ : Q ≤ 16) : zz_M pc fl (upd oc m x) el := by
  refine ⟨fun j hj => ?_, hM.2⟩
  obtain ⟨h1, h2, h3⟩ := hM.1 j hj
  by_cases e : j = m
  · subst e; rw [pk_us]; exact ⟨h1, h2, Q, hQ, hx⟩
  · rw [pk_un e]; exact ⟨h1, h2, h3⟩
theorem zw_ck {q : Nat} (h : cr_code CC AA N kd oA oB oC) (hq : q < N) (hk : kd q = 10) : ∃ kk, kk < AA ∧ oB q = nI kk := by
  rcases h q hq with ⟨e, _⟩ | ⟨e, _⟩ | ⟨e, _⟩ | ⟨e, _⟩ | ⟨e, _⟩ | ⟨e, _⟩ | ⟨_, _, h⟩ | ⟨e, _⟩ | ⟨e, _⟩ | ⟨e, _⟩ | ⟨e, _⟩
  · rw [hk] at e; exact absurd e (by decide)
  · rw [hk] at e; exact absurd e (by decide)
  · rw [hk] at e; exact absurd e (by decide)
  · rw [hk] at e; exact absurd e (by decide)
  · rw [hk] at e; exact absurd e (by decide)
  · rw [hk] at e; exact absurd e (by decide)
  · exact h
  · rw [hk] at e; exact absurd e (by decide)
  · rw [hk] at e; exact absurd e (by decide)
  · rw [hk] at e; exact absurd e (by decide)
  · rw [hk] at e; exact absurd e (by decide)
theorem zw_str1 {kk : Nat} {x : Int32} (hm : m < 2) (hkk : kk < 3) (hx : x < 0 ∨ ¬ x < ln kk) {post : Int32 → SX → Prop} (h : post 1 (lg, og, tp, vt, iv, ce, ac, fn, kd, oA, oB, oC, ln, ip, upd sa m 8, pc, fl, bh, vl, el, ou, oc, bv, so, bd, fi, fw, se, sw, ts)) : wpX_strays post (lg, og, tp, vt, iv, ce, ac, fn, kd, oA, oB, oC, ln, ip, sa, pc, fl, bh, vl, el, ou, oc, bv, so, bd, fi, fw, se, sw, ts) (nI m) (nI kk) x := by
  have w2 : vp_in (nI m) 2 := vp_in_nI hm (by omega)
  have w3 : vp_in (nI kk) 3 := vp_in_nI hkk (by omega)
  unfold wpX_strays
  dsimp only
  rw [nI_clamp (n := m) (by omega), nI_clamp (n := kk) (by omega)]
  by_cases h1 : x < 0
  · exact br_t h1 ⟨w2, nm_e h⟩
  · exact br_f h1 ⟨w3, br_t (Int32.not_lt.mp (hx.resolve_left h1)) ⟨w2, nm_e h⟩⟩
theorem zw_str0 {kk : Nat} {x : Int32} (hkk : kk < 3) (h0 : ¬ x < 0) (hl : x < ln kk) {post : Int32 → SX → Prop} (h : post 0 (lg, og, tp, vt, iv, ce, ac, fn, kd, oA, oB, oC, ln, ip, sa, pc, fl, bh, vl, el, ou, oc, bv, so, bd, fi, fw, se, sw, ts)) : wpX_strays post (lg, og, tp, vt, iv, ce, ac, fn, kd, oA, oB, oC, ln, ip, sa, pc, fl, bh, vl, el, ou, oc, bv, so, bd, fi, fw, se, sw, ts) (nI m) (nI kk) x := by
  have w3 : vp_in (nI kk) 3 := vp_in_nI hkk (by omega)
  unfold wpX_strays
  dsimp only
  rw [nI_clamp (n := kk) (by omega)]
  exact br_f h0 ⟨w3, br_f (Int32.not_le.mpr hl) h⟩
theorem zw_6 (R : zz_R CC AA N kd oA oB oC ln ip pc fl bh vl el oc so bd yv) (hm : m < 2) (hpc : pc m = nI p) (hp : p < N) (hk : kd p = 6) {q q2 q3 : Nat} (hq : q < p) (ha : oA p = nI q) (hq2 : q2 < p) (hb : oB p = nI q2) (hq3 : q3 ≤ CC) (hd : oC p = nI q3) :
    zu_Out (fun post => wpX_step post (lg, og, tp, vt, iv, nI CC, nI AA, nI N, kd, oA, oB, oC, ln, ip, sa, pc, fl, bh, vl, el, ou, oc, bv, so, bd, fi, fw, se, sw, ts) (nI m)) (fun post => wpY_step post (nI CC, nI AA, nI N, kd, oA, oB, oC, ln, ip, yb, sa, pc, oc, bv, fl, yv, el, ou) (nI m)) := by
  have R2 := R
  obtain ⟨⟨c1, c2, c3, c4, c5, c6⟩, hS, hM, hV, hO⟩ := R
  have w2 : vp_in (nI m) 2 := vp_in_nI hm (by omega)
  have w : vp_in (nI p) 32 := vp_in_nI (by omega) (by omega)
  have hN : N ≤ 32 := by omega
  have hp2 : p < 32 := by omega
  have hqa : q < 32 := by omega
  have hqb : q2 < 32 := by omega
  have wa : vp_in (nI (32 * m + q)) 64 := vp_in_nI (by omega) (by omega)
  have wb : vp_in (nI (32 * m + q2)) 64 := vp_in_nI (by omega) (by omega)
  have xin : ∀ post : SX → Prop, wX_step_227 post (nI m) (nI p) lg og tp vt iv (nI CC) (nI AA) (nI N) kd oA oB oC ln ip sa pc fl bh vl el ou oc bv so bd fi fw se sw ts → wpX_step post (lg, og, tp, vt, iv, nI CC, nI AA, nI N, kd, oA, oB, oC, ln, ip, sa, pc, fl, bh, vl, el, ou, oc, bv, so, bd, fi, fw, se, sw, ts) (nI m) := by
    intro post h
    unfold wpX_step
    dsimp only
    rw [nI_clamp (n := m) (by omega)]
    refine ⟨w2, nm_r hpc (br_t (nI_lt hp (by omega)) ?_)⟩
    rw [nI_clamp (n := p) (by omega)]
    refine ⟨w, nm_r hk (br_f (by decide) (br_f (by decide) (br_f (by decide) (br_f (by decide) (br_f (by decide) (br_f (by decide) (br_f (by decide) (br_f (by decide) (br_t rfl (h))))))))))⟩
  rcases hV m q hm hqa with ⟨e1, e2⟩ | ⟨e1, _, e3, e4, e5⟩
  · refine ⟨(lg, og, tp, vt, iv, nI CC, nI AA, nI N, kd, oA, oB, oC, ln, ip, upd sa m 6, pc, fl, bh, vl, el, ou, oc, bv, so, bd, fi, fw, se, sw, ts), (nI CC, nI AA, nI N, kd, oA, oB, oC, ln, ip, yb, upd sa m 6, pc, oc, bv, fl, yv, el, ou), zz_in R2, fun post h => ?_, fun post h => zt_inb hN hm hpc hp hk (by decide) (by decide) ?_⟩
    · refine xin post ?_
      unfold wX_step_227 wpX_stepBranch
      dsimp only
      rw [nI_clamp (n := p) (by omega), ha]
      exact ⟨w, zs_lack1 hm hqa e1 (br_f (by decide) h)⟩
    · rw [ha, hb]
      exact zt_bu hN hm (by decide) (by decide) (by decide) (by decide) (by decide) (by omega) (by omega) (Or.inl e2) h
  · have hne : ¬ yv (32 * m + q) = -1000 := by rw [e3, qn_eq, qn_m1000]; omega
    rcases hV m q2 hm hqb with ⟨f1, f2⟩ | ⟨f1, _, f3, f4, f5⟩
    · refine ⟨(lg, og, tp, vt, iv, nI CC, nI AA, nI N, kd, oA, oB, oC, ln, ip, upd sa m 6, pc, fl, bh, vl, el, ou, oc, bv, so, bd, fi, fw, se, sw, ts), (nI CC, nI AA, nI N, kd, oA, oB, oC, ln, ip, yb, upd sa m 6, pc, oc, bv, fl, yv, el, ou), zz_in R2, fun post h => ?_, fun post h => zt_inb hN hm hpc hp hk (by decide) (by decide) ?_⟩
      · refine xin post ?_
        unfold wX_step_227 wpX_stepBranch
        dsimp only
        rw [nI_clamp (n := p) (by omega), ha]
        refine ⟨w, zs_lack0 hm hqa e1 ?_⟩
        dsimp only
        refine br_t rfl ⟨w, ?_⟩
        rw [hb]
        exact zs_lack1 hm hqb f1 (br_f (by decide) h)
      · rw [ha, hb]
        exact zt_bu hN hm (by decide) (by decide) (by decide) (by decide) (by decide) (by omega) (by omega) (Or.inr f2) h
    · have hnf : ¬ yv (32 * m + q2) = -1000 := by rw [f3, qn_eq, qn_m1000]; omega
      by_cases hc : vl (32 * m + q2) ≤ vl (32 * m + q)
      · refine ⟨(lg, og, tp, vt, iv, nI CC, nI AA, nI N, kd, oA, oB, oC, ln, ip, sa, upd pc m (oC p), upd fl m 1, bh, vl, el, ou, oc, bv, so, bd, fi, fw, se, sw, ts), (nI CC, nI AA, nI N, kd, oA, oB, oC, ln, ip, yb, sa, upd pc m (oC p), oc, bv, upd fl m 1, yv, el, ou), zz_in ⟨⟨c1, c2, c3, c4, c5, c6⟩, hS, zs_M hM hd (by omega) (Or.inr rfl), hV, hO⟩, fun post h => ?_, fun post h => zt_inb hN hm hpc hp hk (by decide) (by decide) ?_⟩
        · refine xin post ?_
          unfold wX_step_227 wpX_stepBranch
          dsimp only
          rw [nI_clamp (n := p) (by omega), ha]
          refine ⟨w, zs_lack0 hm hqa e1 ?_⟩
          dsimp only
          refine br_t rfl ⟨w, ?_⟩
          rw [hb]
          refine zs_lack0 hm hqb f1 ?_
          dsimp only
          refine br_t rfl ?_
          rw [ha, hb, zn_32, zn_32, nI_clamp (n := 32 * m + q) (by omega), nI_clamp (n := 32 * m + q2) (by omega), hk]
          refine ⟨w, wa, nm_e ⟨w, wb, nm_e ⟨w, ?_⟩⟩⟩
          exact br_f (by decide) (br_f (by decide) (br_t rfl (br_t hc (br_t rfl ⟨w, zs_leap hm h⟩))))
        · rw [ha, hb]
          refine zt_b hN hm (by decide) (by decide) (by decide) (by omega) (by omega) hne hnf ?_
          rw [e3, f3]
          refine br_f (by decide) (br_f (by decide) (br_f (by decide) (br_f (by decide) (br_f (by decide) (br_f (by decide) (br_f (by decide) (br_t rfl (br_t hc (br_t rfl ?_)))))))))
          rw [nI_clamp (n := p) (by omega)]
          exact ⟨w, nm_e (br_f (by decide) (br_f (by decide) (br_f (by decide) (br_f (by decide) (br_f (by decide) (zt_701n hm (Or.inr rfl) h))))))⟩
      · have hv1 := e4
        have hv2 := e5
        refine ⟨(lg, og, tp, vt, iv, nI CC, nI AA, nI N, kd, oA, oB, oC, ln, ip, sa, upd pc m (nI (p + 1)), upd fl m 0, upd bh (32 * m + p) 1, upd vl (32 * m + p) (vl (32 * m + q)), el, ou, oc, bv, so, bd, fi, fw, se, sw, ts), (nI CC, nI AA, nI N, kd, oA, oB, oC, ln, ip, yb, sa, upd pc m (nI (p + 1)), oc, bv, upd fl m 0, upd yv (32 * m + p) (vl (32 * m + q)), el, ou), zz_in ⟨⟨c1, c2, c3, c4, c5, c6⟩, hS, zs_M hM rfl (by omega) (Or.inl rfl), zs_V hV hp hp2 hv1 hv2, hO⟩, fun post h => ?_, fun post h => zt_inb hN hm hpc hp hk (by decide) (by decide) ?_⟩
        · refine xin post ?_
          unfold wX_step_227 wpX_stepBranch
          dsimp only
          rw [nI_clamp (n := p) (by omega), ha]
          refine ⟨w, zs_lack0 hm hqa e1 ?_⟩
          dsimp only
          refine br_t rfl ⟨w, ?_⟩
          rw [hb]
          refine zs_lack0 hm hqb f1 ?_
          dsimp only
          refine br_t rfl ?_
          rw [ha, hb, zn_32, zn_32, nI_clamp (n := 32 * m + q) (by omega), nI_clamp (n := 32 * m + q2) (by omega), hk]
          refine ⟨w, wa, nm_e ⟨w, wb, nm_e ⟨w, ?_⟩⟩⟩
          exact br_f (by decide) (br_f (by decide) (br_t rfl (br_f hc (br_f (by decide) (zs_fin hm hp2 h)))))
        · rw [ha, hb]
          refine zt_b hN hm (by decide) (by decide) (by decide) (by omega) (by omega) hne hnf ?_
          rw [e3, f3]
          exact br_f (by decide) (br_f (by decide) (br_f (by decide) (br_f (by decide) (br_f (by decide) (br_f (by decide) (br_f (by decide) (br_t rfl (br_f hc (br_f (by decide) (br_f (by decide) (br_f (by decide) (br_f (by decide) (br_f (by decide) (br_f (by decide) (zt_701 hm hp2 hv1 (Or.inl rfl) h)))))))))))))))
theorem zw_7 (R : zz_R CC AA N kd oA oB oC ln ip pc fl bh vl el oc so bd yv) (hm : m < 2) (hpc : pc m = nI p) (hp : p < N) (hk : kd p = 7) {q q2 q3 : Nat} (hq : q < p) (ha : oA p = nI q) (hq2 : q2 < p) (hb : oB p = nI q2) (hq3 : q3 ≤ CC) (hd : oC p = nI q3) :
    zu_Out (fun post => wpX_step post (lg, og, tp, vt, iv, nI CC, nI AA, nI N, kd, oA, oB, oC, ln, ip, sa, pc, fl, bh, vl, el, ou, oc, bv, so, bd, fi, fw, se, sw, ts) (nI m)) (fun post => wpY_step post (nI CC, nI AA, nI N, kd, oA, oB, oC, ln, ip, yb, sa, pc, oc, bv, fl, yv, el, ou) (nI m)) := by
  have R2 := R
  obtain ⟨⟨c1, c2, c3, c4, c5, c6⟩, hS, hM, hV, hO⟩ := R
  have w2 : vp_in (nI m) 2 := vp_in_nI hm (by omega)
  have w : vp_in (nI p) 32 := vp_in_nI (by omega) (by omega)
  have hN : N ≤ 32 := by omega
  have hp2 : p < 32 := by omega
  have hqa : q < 32 := by omega
  have hqb : q2 < 32 := by omega
  have wa : vp_in (nI (32 * m + q)) 64 := vp_in_nI (by omega) (by omega)
  have wb : vp_in (nI (32 * m + q2)) 64 := vp_in_nI (by omega) (by omega)
  have xin : ∀ post : SX → Prop, wX_step_227 post (nI m) (nI p) lg og tp vt iv (nI CC) (nI AA) (nI N) kd oA oB oC ln ip sa pc fl bh vl el ou oc bv so bd fi fw se sw ts → wpX_step post (lg, og, tp, vt, iv, nI CC, nI AA, nI N, kd, oA, oB, oC, ln, ip, sa, pc, fl, bh, vl, el, ou, oc, bv, so, bd, fi, fw, se, sw, ts) (nI m) := by
    intro post h
    unfold wpX_step
    dsimp only
    rw [nI_clamp (n := m) (by omega)]
    refine ⟨w2, nm_r hpc (br_t (nI_lt hp (by omega)) ?_)⟩
    rw [nI_clamp (n := p) (by omega)]
    refine ⟨w, nm_r hk (br_f (by decide) (br_f (by decide) (br_f (by decide) (br_f (by decide) (br_f (by decide) (br_f (by decide) (br_f (by decide) (br_f (by decide) (br_f (by decide) (br_t rfl (h)))))))))))⟩
  rcases hV m q hm hqa with ⟨e1, e2⟩ | ⟨e1, _, e3, e4, e5⟩
  · refine ⟨(lg, og, tp, vt, iv, nI CC, nI AA, nI N, kd, oA, oB, oC, ln, ip, upd sa m 6, pc, fl, bh, vl, el, ou, oc, bv, so, bd, fi, fw, se, sw, ts), (nI CC, nI AA, nI N, kd, oA, oB, oC, ln, ip, yb, upd sa m 6, pc, oc, bv, fl, yv, el, ou), zz_in R2, fun post h => ?_, fun post h => zt_inb hN hm hpc hp hk (by decide) (by decide) ?_⟩
    · refine xin post ?_
      unfold wX_step_227 wpX_stepBranch
      dsimp only
      rw [nI_clamp (n := p) (by omega), ha]
      exact ⟨w, zs_lack1 hm hqa e1 (br_f (by decide) h)⟩
    · rw [ha, hb]
      exact zt_bu hN hm (by decide) (by decide) (by decide) (by decide) (by decide) (by omega) (by omega) (Or.inl e2) h
  · have hne : ¬ yv (32 * m + q) = -1000 := by rw [e3, qn_eq, qn_m1000]; omega
    rcases hV m q2 hm hqb with ⟨f1, f2⟩ | ⟨f1, _, f3, f4, f5⟩
    · refine ⟨(lg, og, tp, vt, iv, nI CC, nI AA, nI N, kd, oA, oB, oC, ln, ip, upd sa m 6, pc, fl, bh, vl, el, ou, oc, bv, so, bd, fi, fw, se, sw, ts), (nI CC, nI AA, nI N, kd, oA, oB, oC, ln, ip, yb, upd sa m 6, pc, oc, bv, fl, yv, el, ou), zz_in R2, fun post h => ?_, fun post h => zt_inb hN hm hpc hp hk (by decide) (by decide) ?_⟩
      · refine xin post ?_
        unfold wX_step_227 wpX_stepBranch
        dsimp only
        rw [nI_clamp (n := p) (by omega), ha]
        refine ⟨w, zs_lack0 hm hqa e1 ?_⟩
        dsimp only
        refine br_t rfl ⟨w, ?_⟩
        rw [hb]
        exact zs_lack1 hm hqb f1 (br_f (by decide) h)
      · rw [ha, hb]
        exact zt_bu hN hm (by decide) (by decide) (by decide) (by decide) (by decide) (by omega) (by omega) (Or.inr f2) h
    · have hnf : ¬ yv (32 * m + q2) = -1000 := by rw [f3, qn_eq, qn_m1000]; omega
      by_cases hc : vl (32 * m + q2) < vl (32 * m + q)
      · refine ⟨(lg, og, tp, vt, iv, nI CC, nI AA, nI N, kd, oA, oB, oC, ln, ip, sa, upd pc m (oC p), upd fl m 1, bh, vl, el, ou, oc, bv, so, bd, fi, fw, se, sw, ts), (nI CC, nI AA, nI N, kd, oA, oB, oC, ln, ip, yb, sa, upd pc m (oC p), oc, bv, upd fl m 1, yv, el, ou), zz_in ⟨⟨c1, c2, c3, c4, c5, c6⟩, hS, zs_M hM hd (by omega) (Or.inr rfl), hV, hO⟩, fun post h => ?_, fun post h => zt_inb hN hm hpc hp hk (by decide) (by decide) ?_⟩
        · refine xin post ?_
          unfold wX_step_227 wpX_stepBranch
          dsimp only
          rw [nI_clamp (n := p) (by omega), ha]
          refine ⟨w, zs_lack0 hm hqa e1 ?_⟩
          dsimp only
          refine br_t rfl ⟨w, ?_⟩
          rw [hb]
          refine zs_lack0 hm hqb f1 ?_
          dsimp only
          refine br_t rfl ?_
          rw [ha, hb, zn_32, zn_32, nI_clamp (n := 32 * m + q) (by omega), nI_clamp (n := 32 * m + q2) (by omega), hk]
          refine ⟨w, wa, nm_e ⟨w, wb, nm_e ⟨w, ?_⟩⟩⟩
          exact br_f (by decide) (br_f (by decide) (br_f (by decide) (br_t rfl (br_t hc (br_t rfl ⟨w, zs_leap hm h⟩)))))
        · rw [ha, hb]
          refine zt_b hN hm (by decide) (by decide) (by decide) (by omega) (by omega) hne hnf ?_
          rw [e3, f3]
          refine br_f (by decide) (br_f (by decide) (br_f (by decide) (br_f (by decide) (br_f (by decide) (br_f (by decide) (br_f (by decide) (br_f (by decide) (br_t rfl (br_t hc (br_t rfl ?_))))))))))
          rw [nI_clamp (n := p) (by omega)]
          exact ⟨w, nm_e (br_f (by decide) (br_f (by decide) (br_f (by decide) (br_f (by decide) (br_f (by decide) (zt_701n hm (Or.inr rfl) h))))))⟩
      · have hv1 := e4
        have hv2 := e5
        refine ⟨(lg, og, tp, vt, iv, nI CC, nI AA, nI N, kd, oA, oB, oC, ln, ip, sa, upd pc m (nI (p + 1)), upd fl m 0, upd bh (32 * m + p) 1, upd vl (32 * m + p) (vl (32 * m + q)), el, ou, oc, bv, so, bd, fi, fw, se, sw, ts), (nI CC, nI AA, nI N, kd, oA, oB, oC, ln, ip, yb, sa, upd pc m (nI (p + 1)), oc, bv, upd fl m 0, upd yv (32 * m + p) (vl (32 * m + q)), el, ou), zz_in ⟨⟨c1, c2, c3, c4, c5, c6⟩, hS, zs_M hM rfl (by omega) (Or.inl rfl), zs_V hV hp hp2 hv1 hv2, hO⟩, fun post h => ?_, fun post h => zt_inb hN hm hpc hp hk (by decide) (by decide) ?_⟩
        · refine xin post ?_
          unfold wX_step_227 wpX_stepBranch
          dsimp only
          rw [nI_clamp (n := p) (by omega), ha]
          refine ⟨w, zs_lack0 hm hqa e1 ?_⟩
          dsimp only
          refine br_t rfl ⟨w, ?_⟩
          rw [hb]
          refine zs_lack0 hm hqb f1 ?_
          dsimp only
          refine br_t rfl ?_
          rw [ha, hb, zn_32, zn_32, nI_clamp (n := 32 * m + q) (by omega), nI_clamp (n := 32 * m + q2) (by omega), hk]
          refine ⟨w, wa, nm_e ⟨w, wb, nm_e ⟨w, ?_⟩⟩⟩
          exact br_f (by decide) (br_f (by decide) (br_f (by decide) (br_t rfl (br_f hc (br_f (by decide) (zs_fin hm hp2 h))))))
        · rw [ha, hb]
          refine zt_b hN hm (by decide) (by decide) (by decide) (by omega) (by omega) hne hnf ?_
          rw [e3, f3]
          exact br_f (by decide) (br_f (by decide) (br_f (by decide) (br_f (by decide) (br_f (by decide) (br_f (by decide) (br_f (by decide) (br_f (by decide) (br_t rfl (br_f hc (br_f (by decide) (br_f (by decide) (br_f (by decide) (br_f (by decide) (br_f (by decide) (br_f (by decide) (zt_701 hm hp2 hv1 (Or.inl rfl) h))))))))))))))))
theorem zw_8 (R : zz_R CC AA N kd oA oB oC ln ip pc fl bh vl el oc so bd yv) (hm : m < 2) (hpc : pc m = nI p) (hp : p < N) (hk : kd p = 8) {q q2 q3 : Nat} (hq : q < p) (ha : oA p = nI q) (hq2 : q2 < p) (hb : oB p = nI q2) (hq3 : q3 ≤ CC) (hd : oC p = nI q3) :
    zu_Out (fun post => wpX_step post (lg, og, tp, vt, iv, nI CC, nI AA, nI N, kd, oA, oB, oC, ln, ip, sa, pc, fl, bh, vl, el, ou, oc, bv, so, bd, fi, fw, se, sw, ts) (nI m)) (fun post => wpY_step post (nI CC, nI AA, nI N, kd, oA, oB, oC, ln, ip, yb, sa, pc, oc, bv, fl, yv, el, ou) (nI m)) := by
  have R2 := R
  obtain ⟨⟨c1, c2, c3, c4, c5, c6⟩, hS, hM, hV, hO⟩ := R
  have w2 : vp_in (nI m) 2 := vp_in_nI hm (by omega)
  have w : vp_in (nI p) 32 := vp_in_nI (by omega) (by omega)
  have hN : N ≤ 32 := by omega
  have hp2 : p < 32 := by omega
  have hqa : q < 32 := by omega
  have hqb : q2 < 32 := by omega
  have wa : vp_in (nI (32 * m + q)) 64 := vp_in_nI (by omega) (by omega)
  have wb : vp_in (nI (32 * m + q2)) 64 := vp_in_nI (by omega) (by omega)
  have xin : ∀ post : SX → Prop, wX_step_227 post (nI m) (nI p) lg og tp vt iv (nI CC) (nI AA) (nI N) kd oA oB oC ln ip sa pc fl bh vl el ou oc bv so bd fi fw se sw ts → wpX_step post (lg, og, tp, vt, iv, nI CC, nI AA, nI N, kd, oA, oB, oC, ln, ip, sa, pc, fl, bh, vl, el, ou, oc, bv, so, bd, fi, fw, se, sw, ts) (nI m) := by
    intro post h
    unfold wpX_step
    dsimp only
    rw [nI_clamp (n := m) (by omega)]
    refine ⟨w2, nm_r hpc (br_t (nI_lt hp (by omega)) ?_)⟩
    rw [nI_clamp (n := p) (by omega)]
    refine ⟨w, nm_r hk (br_f (by decide) (br_f (by decide) (br_f (by decide) (br_f (by decide) (br_f (by decide) (br_f (by decide) (br_f (by decide) (br_f (by decide) (br_f (by decide) (br_f (by decide) (br_t rfl (h))))))))))))⟩
  rcases hV m q hm hqa with ⟨e1, e2⟩ | ⟨e1, _, e3, e4, e5⟩
  · refine ⟨(lg, og, tp, vt, iv, nI CC, nI AA, nI N, kd, oA, oB, oC, ln, ip, upd sa m 6, pc, fl, bh, vl, el, ou, oc, bv, so, bd, fi, fw, se, sw, ts), (nI CC, nI AA, nI N, kd, oA, oB, oC, ln, ip, yb, upd sa m 6, pc, oc, bv, fl, yv, el, ou), zz_in R2, fun post h => ?_, fun post h => zt_inb hN hm hpc hp hk (by decide) (by decide) ?_⟩
    · refine xin post ?_
      unfold wX_step_227 wpX_stepBranch
      dsimp only
      rw [nI_clamp (n := p) (by omega), ha]
      exact ⟨w, zs_lack1 hm hqa e1 (br_f (by decide) h)⟩
    · rw [ha, hb]
      exact zt_bu hN hm (by decide) (by decide) (by decide) (by decide) (by decide) (by omega) (by omega) (Or.inl e2) h
  · have hne : ¬ yv (32 * m + q) = -1000 := by rw [e3, qn_eq, qn_m1000]; omega
    rcases hV m q2 hm hqb with ⟨f1, f2⟩ | ⟨f1, _, f3, f4, f5⟩
    · refine ⟨(lg, og, tp, vt, iv, nI CC, nI AA, nI N, kd, oA, oB, oC, ln, ip, upd sa m 6, pc, fl, bh, vl, el, ou, oc, bv, so, bd, fi, fw, se, sw, ts), (nI CC, nI AA, nI N, kd, oA, oB, oC, ln, ip, yb, upd sa m 6, pc, oc, bv, fl, yv, el, ou), zz_in R2, fun post h => ?_, fun post h => zt_inb hN hm hpc hp hk (by decide) (by decide) ?_⟩
      · refine xin post ?_
        unfold wX_step_227 wpX_stepBranch
        dsimp only
        rw [nI_clamp (n := p) (by omega), ha]
        refine ⟨w, zs_lack0 hm hqa e1 ?_⟩
        dsimp only
        refine br_t rfl ⟨w, ?_⟩
        rw [hb]
        exact zs_lack1 hm hqb f1 (br_f (by decide) h)
      · rw [ha, hb]
        exact zt_bu hN hm (by decide) (by decide) (by decide) (by decide) (by decide) (by omega) (by omega) (Or.inr f2) h
    · have hnf : ¬ yv (32 * m + q2) = -1000 := by rw [f3, qn_eq, qn_m1000]; omega
      by_cases hc : vl (32 * m + q) ≤ vl (32 * m + q2)
      · refine ⟨(lg, og, tp, vt, iv, nI CC, nI AA, nI N, kd, oA, oB, oC, ln, ip, sa, upd pc m (oC p), upd fl m 1, bh, vl, el, ou, oc, bv, so, bd, fi, fw, se, sw, ts), (nI CC, nI AA, nI N, kd, oA, oB, oC, ln, ip, yb, sa, upd pc m (oC p), oc, bv, upd fl m 1, yv, el, ou), zz_in ⟨⟨c1, c2, c3, c4, c5, c6⟩, hS, zs_M hM hd (by omega) (Or.inr rfl), hV, hO⟩, fun post h => ?_, fun post h => zt_inb hN hm hpc hp hk (by decide) (by decide) ?_⟩
        · refine xin post ?_
          unfold wX_step_227 wpX_stepBranch
          dsimp only
          rw [nI_clamp (n := p) (by omega), ha]
          refine ⟨w, zs_lack0 hm hqa e1 ?_⟩
          dsimp only
          refine br_t rfl ⟨w, ?_⟩
          rw [hb]
          refine zs_lack0 hm hqb f1 ?_
          dsimp only
          refine br_t rfl ?_
          rw [ha, hb, zn_32, zn_32, nI_clamp (n := 32 * m + q) (by omega), nI_clamp (n := 32 * m + q2) (by omega), hk]
          refine ⟨w, wa, nm_e ⟨w, wb, nm_e ⟨w, ?_⟩⟩⟩
          exact br_f (by decide) (br_f (by decide) (br_f (by decide) (br_f (by decide) (br_t rfl (br_t hc (br_t rfl ⟨w, zs_leap hm h⟩))))))
        · rw [ha, hb]
          refine zt_b hN hm (by decide) (by decide) (by decide) (by omega) (by omega) hne hnf ?_
          rw [e3, f3]
          refine br_f (by decide) (br_f (by decide) (br_f (by decide) (br_f (by decide) (br_f (by decide) (br_f (by decide) (br_f (by decide) (br_f (by decide) (br_f (by decide) (br_t rfl (br_t hc (br_t rfl ?_)))))))))))
          rw [nI_clamp (n := p) (by omega)]
          exact ⟨w, nm_e (br_f (by decide) (br_f (by decide) (br_f (by decide) (br_f (by decide) (br_f (by decide) (zt_701n hm (Or.inr rfl) h))))))⟩
      · have hv1 := e4
        have hv2 := e5
        refine ⟨(lg, og, tp, vt, iv, nI CC, nI AA, nI N, kd, oA, oB, oC, ln, ip, sa, upd pc m (nI (p + 1)), upd fl m 0, upd bh (32 * m + p) 1, upd vl (32 * m + p) (vl (32 * m + q)), el, ou, oc, bv, so, bd, fi, fw, se, sw, ts), (nI CC, nI AA, nI N, kd, oA, oB, oC, ln, ip, yb, sa, upd pc m (nI (p + 1)), oc, bv, upd fl m 0, upd yv (32 * m + p) (vl (32 * m + q)), el, ou), zz_in ⟨⟨c1, c2, c3, c4, c5, c6⟩, hS, zs_M hM rfl (by omega) (Or.inl rfl), zs_V hV hp hp2 hv1 hv2, hO⟩, fun post h => ?_, fun post h => zt_inb hN hm hpc hp hk (by decide) (by decide) ?_⟩
        · refine xin post ?_
          unfold wX_step_227 wpX_stepBranch
          dsimp only
          rw [nI_clamp (n := p) (by omega), ha]
          refine ⟨w, zs_lack0 hm hqa e1 ?_⟩
          dsimp only
          refine br_t rfl ⟨w, ?_⟩
          rw [hb]
          refine zs_lack0 hm hqb f1 ?_
          dsimp only
          refine br_t rfl ?_
          rw [ha, hb, zn_32, zn_32, nI_clamp (n := 32 * m + q) (by omega), nI_clamp (n := 32 * m + q2) (by omega), hk]
          refine ⟨w, wa, nm_e ⟨w, wb, nm_e ⟨w, ?_⟩⟩⟩
          exact br_f (by decide) (br_f (by decide) (br_f (by decide) (br_f (by decide) (br_t rfl (br_f hc (br_f (by decide) (zs_fin hm hp2 h)))))))
        · rw [ha, hb]
          refine zt_b hN hm (by decide) (by decide) (by decide) (by omega) (by omega) hne hnf ?_
          rw [e3, f3]
          exact br_f (by decide) (br_f (by decide) (br_f (by decide) (br_f (by decide) (br_f (by decide) (br_f (by decide) (br_f (by decide) (br_f (by decide) (br_f (by decide) (br_t rfl (br_f hc (br_f (by decide) (br_f (by decide) (br_f (by decide) (br_f (by decide) (br_f (by decide) (br_f (by decide) (zt_701 hm hp2 hv1 (Or.inl rfl) h)))))))))))))))))
theorem zw_9 (R : zz_R CC AA N kd oA oB oC ln ip pc fl bh vl el oc so bd yv) (hm : m < 2) (hpc : pc m = nI p) (hp : p < N) (hk : kd p = 9) {q q2 q3 : Nat} (hq : q < p) (ha : oA p = nI q) (hq2 : q2 < p) (hb : oB p = nI q2) (hq3 : q3 ≤ CC) (hd : oC p = nI q3) :
    zu_Out (fun post => wpX_step post (lg, og, tp, vt, iv, nI CC, nI AA, nI N, kd, oA, oB, oC, ln, ip, sa, pc, fl, bh, vl, el, ou, oc, bv, so, bd, fi, fw, se, sw, ts) (nI m)) (fun post => wpY_step post (nI CC, nI AA, nI N, kd, oA, oB, oC, ln, ip, yb, sa, pc, oc, bv, fl, yv, el, ou) (nI m)) := by
  have R2 := R
  obtain ⟨⟨c1, c2, c3, c4, c5, c6⟩, hS, hM, hV, hO⟩ := R
  have w2 : vp_in (nI m) 2 := vp_in_nI hm (by omega)
  have w : vp_in (nI p) 32 := vp_in_nI (by omega) (by omega)
  have hN : N ≤ 32 := by omega
  have hp2 : p < 32 := by omega
  have hqa : q < 32 := by omega
  have hqb : q2 < 32 := by omega
  have wa : vp_in (nI (32 * m + q)) 64 := vp_in_nI (by omega) (by omega)
  have wb : vp_in (nI (32 * m + q2)) 64 := vp_in_nI (by omega) (by omega)
  have xin : ∀ post : SX → Prop, wX_step_227 post (nI m) (nI p) lg og tp vt iv (nI CC) (nI AA) (nI N) kd oA oB oC ln ip sa pc fl bh vl el ou oc bv so bd fi fw se sw ts → wpX_step post (lg, og, tp, vt, iv, nI CC, nI AA, nI N, kd, oA, oB, oC, ln, ip, sa, pc, fl, bh, vl, el, ou, oc, bv, so, bd, fi, fw, se, sw, ts) (nI m) := by
    intro post h
    unfold wpX_step
    dsimp only
    rw [nI_clamp (n := m) (by omega)]
    refine ⟨w2, nm_r hpc (br_t (nI_lt hp (by omega)) ?_)⟩
    rw [nI_clamp (n := p) (by omega)]
    refine ⟨w, nm_r hk (br_f (by decide) (br_f (by decide) (br_f (by decide) (br_f (by decide) (br_f (by decide) (br_f (by decide) (br_f (by decide) (br_f (by decide) (br_f (by decide) (br_f (by decide) (br_f (by decide) (br_t rfl (h)))))))))))))⟩
  rcases hV m q hm hqa with ⟨e1, e2⟩ | ⟨e1, _, e3, e4, e5⟩
  · refine ⟨(lg, og, tp, vt, iv, nI CC, nI AA, nI N, kd, oA, oB, oC, ln, ip, upd sa m 6, pc, fl, bh, vl, el, ou, oc, bv, so, bd, fi, fw, se, sw, ts), (nI CC, nI AA, nI N, kd, oA, oB, oC, ln, ip, yb, upd sa m 6, pc, oc, bv, fl, yv, el, ou), zz_in R2, fun post h => ?_, fun post h => zt_inb hN hm hpc hp hk (by decide) (by decide) ?_⟩
    · refine xin post ?_
      unfold wX_step_227 wpX_stepBranch
      dsimp only
      rw [nI_clamp (n := p) (by omega), ha]
      exact ⟨w, zs_lack1 hm hqa e1 (br_f (by decide) h)⟩
    · rw [ha, hb]
      exact zt_bu hN hm (by decide) (by decide) (by decide) (by decide) (by decide) (by omega) (by omega) (Or.inl e2) h
  · have hne : ¬ yv (32 * m + q) = -1000 := by rw [e3, qn_eq, qn_m1000]; omega
    rcases hV m q2 hm hqb with ⟨f1, f2⟩ | ⟨f1, _, f3, f4, f5⟩
    · refine ⟨(lg, og, tp, vt, iv, nI CC, nI AA, nI N, kd, oA, oB, oC, ln, ip, upd sa m 6, pc, fl, bh, vl, el, ou, oc, bv, so, bd, fi, fw, se, sw, ts), (nI CC, nI AA, nI N, kd, oA, oB, oC, ln, ip, yb, upd sa m 6, pc, oc, bv, fl, yv, el, ou), zz_in R2, fun post h => ?_, fun post h => zt_inb hN hm hpc hp hk (by decide) (by decide) ?_⟩
      · refine xin post ?_
        unfold wX_step_227 wpX_stepBranch
        dsimp only
        rw [nI_clamp (n := p) (by omega), ha]
        refine ⟨w, zs_lack0 hm hqa e1 ?_⟩
        dsimp only
        refine br_t rfl ⟨w, ?_⟩
        rw [hb]
        exact zs_lack1 hm hqb f1 (br_f (by decide) h)
      · rw [ha, hb]
        exact zt_bu hN hm (by decide) (by decide) (by decide) (by decide) (by decide) (by omega) (by omega) (Or.inr f2) h
    · have hnf : ¬ yv (32 * m + q2) = -1000 := by rw [f3, qn_eq, qn_m1000]; omega
      by_cases hc : vl (32 * m + q) < vl (32 * m + q2)
      · refine ⟨(lg, og, tp, vt, iv, nI CC, nI AA, nI N, kd, oA, oB, oC, ln, ip, sa, upd pc m (oC p), upd fl m 1, bh, vl, el, ou, oc, bv, so, bd, fi, fw, se, sw, ts), (nI CC, nI AA, nI N, kd, oA, oB, oC, ln, ip, yb, sa, upd pc m (oC p), oc, bv, upd fl m 1, yv, el, ou), zz_in ⟨⟨c1, c2, c3, c4, c5, c6⟩, hS, zs_M hM hd (by omega) (Or.inr rfl), hV, hO⟩, fun post h => ?_, fun post h => zt_inb hN hm hpc hp hk (by decide) (by decide) ?_⟩
        · refine xin post ?_
          unfold wX_step_227 wpX_stepBranch
          dsimp only
          rw [nI_clamp (n := p) (by omega), ha]
          refine ⟨w, zs_lack0 hm hqa e1 ?_⟩
          dsimp only
          refine br_t rfl ⟨w, ?_⟩
          rw [hb]
          refine zs_lack0 hm hqb f1 ?_
          dsimp only
          refine br_t rfl ?_
          rw [ha, hb, zn_32, zn_32, nI_clamp (n := 32 * m + q) (by omega), nI_clamp (n := 32 * m + q2) (by omega), hk]
          refine ⟨w, wa, nm_e ⟨w, wb, nm_e ⟨w, ?_⟩⟩⟩
          exact br_f (by decide) (br_t (by decide) (br_t hc (br_t rfl ⟨w, zs_leap hm h⟩)))
        · rw [ha, hb]
          refine zt_b hN hm (by decide) (by decide) (by decide) (by omega) (by omega) hne hnf ?_
          rw [e3, f3]
          refine br_f (by decide) (br_f (by decide) (br_f (by decide) (br_f (by decide) (br_f (by decide) (br_f (by decide) (br_f (by decide) (br_f (by decide) (br_f (by decide) (br_f (by decide) (br_t hc (br_t rfl ?_)))))))))))
          rw [nI_clamp (n := p) (by omega)]
          exact ⟨w, nm_e (br_f (by decide) (br_f (by decide) (br_f (by decide) (br_f (by decide) (br_f (by decide) (zt_701n hm (Or.inr rfl) h))))))⟩
      · have hv1 := e4
        have hv2 := e5
        refine ⟨(lg, og, tp, vt, iv, nI CC, nI AA, nI N, kd, oA, oB, oC, ln, ip, sa, upd pc m (nI (p + 1)), upd fl m 0, upd bh (32 * m + p) 1, upd vl (32 * m + p) (vl (32 * m + q)), el, ou, oc, bv, so, bd, fi, fw, se, sw, ts), (nI CC, nI AA, nI N, kd, oA, oB, oC, ln, ip, yb, sa, upd pc m (nI (p + 1)), oc, bv, upd fl m 0, upd yv (32 * m + p) (vl (32 * m + q)), el, ou), zz_in ⟨⟨c1, c2, c3, c4, c5, c6⟩, hS, zs_M hM rfl (by omega) (Or.inl rfl), zs_V hV hp hp2 hv1 hv2, hO⟩, fun post h => ?_, fun post h => zt_inb hN hm hpc hp hk (by decide) (by decide) ?_⟩
        · refine xin post ?_
          unfold wX_step_227 wpX_stepBranch
          dsimp only
          rw [nI_clamp (n := p) (by omega), ha]
          refine ⟨w, zs_lack0 hm hqa e1 ?_⟩
          dsimp only
          refine br_t rfl ⟨w, ?_⟩
          rw [hb]
          refine zs_lack0 hm hqb f1 ?_
          dsimp only
          refine br_t rfl ?_
          rw [ha, hb, zn_32, zn_32, nI_clamp (n := 32 * m + q) (by omega), nI_clamp (n := 32 * m + q2) (by omega), hk]
          refine ⟨w, wa, nm_e ⟨w, wb, nm_e ⟨w, ?_⟩⟩⟩
          exact br_f (by decide) (br_t (by decide) (br_f hc (br_f (by decide) (zs_fin hm hp2 h))))
        · rw [ha, hb]
          refine zt_b hN hm (by decide) (by decide) (by decide) (by omega) (by omega) hne hnf ?_
          rw [e3, f3]
          exact br_f (by decide) (br_f (by decide) (br_f (by decide) (br_f (by decide) (br_f (by decide) (br_f (by decide) (br_f (by decide) (br_f (by decide) (br_f (by decide) (br_f (by decide) (br_f hc (br_f (by decide) (br_f (by decide) (br_f (by decide) (br_f (by decide) (br_f (by decide) (br_f (by decide) (zt_701 hm hp2 hv1 (Or.inl rfl) h)))))))))))))))))
theorem zw_13 (R : zz_R CC AA N kd oA oB oC ln ip pc fl bh vl el oc so bd yv) (hm : m < 2) (hpc : pc m = nI p) (hp : p < N) (hk : kd p = 13) {q : Nat} (hq : q < p) (ha : oA p = nI q) :
    zu_Out (fun post => wpX_step post (lg, og, tp, vt, iv, nI CC, nI AA, nI N, kd, oA, oB, oC, ln, ip, sa, pc, fl, bh, vl, el, ou, oc, bv, so, bd, fi, fw, se, sw, ts) (nI m)) (fun post => wpY_step post (nI CC, nI AA, nI N, kd, oA, oB, oC, ln, ip, yb, sa, pc, oc, bv, fl, yv, el, ou) (nI m)) := by
  have R2 := R
  obtain ⟨⟨c1, c2, c3, c4, c5, c6⟩, hS, hM, hV, hO⟩ := R
  have w2 : vp_in (nI m) 2 := vp_in_nI hm (by omega)
  have w : vp_in (nI p) 32 := vp_in_nI (by omega) (by omega)
  have hN : N ≤ 32 := by omega
  have hp2 : p < 32 := by omega
  have hq2 : q < 32 := by omega
  have wq : vp_in (nI (32 * m + q)) 64 := vp_in_nI (by omega) (by omega)
  obtain ⟨_, _, Q, hQ, hoc⟩ := hM.1 m hm
  rcases hV m q hm hq2 with ⟨e1, e2⟩ | ⟨e1, _, e3, e4, e5⟩
  · refine ⟨(lg, og, tp, vt, iv, nI CC, nI AA, nI N, kd, oA, oB, oC, ln, ip, upd sa m 6, pc, fl, bh, vl, el, ou, oc, bv, so, bd, fi, fw, se, sw, ts), (nI CC, nI AA, nI N, kd, oA, oB, oC, ln, ip, yb, upd sa m 6, pc, oc, bv, fl, yv, el, ou), zz_in R2, fun post h => ?_, fun post h => ?_⟩
    · unfold wpX_step
      dsimp only
      rw [nI_clamp (n := m) (by omega)]
      refine ⟨w2, nm_r hpc (br_t (nI_lt hp (by omega)) ?_)⟩
      rw [nI_clamp (n := p) (by omega)]
      refine ⟨w, nm_r hk (br_f (by decide) (br_f (by decide) (br_f (by decide) (br_f (by decide) (br_f (by decide) (br_f (by decide) (br_f (by decide) (br_f (by decide) (br_f (by decide) (br_f (by decide) (br_f (by decide) (br_f (by decide) (br_f (by decide) (br_f (by decide) (br_f (by decide) (br_t rfl (?_)))))))))))))))))⟩
      unfold wpX_stepOut
      dsimp only
      rw [nI_clamp (n := p) (by omega), ha]
      exact ⟨w, zs_lack1 hm hq2 e1 (br_f (by decide) h)⟩
    · refine zt_in hN hm hpc hp hk (by decide) ?_
      rw [ha]
      exact zt_su hN hm (by decide) (by decide) (by decide) (by decide) (by decide) (by omega) e2 h
  · have hne : ¬ yv (32 * m + q) = -1000 := by rw [e3, qn_eq, qn_m1000]; omega
    obtain ⟨y, hY⟩ := zt_s (ce := nI CC) (ac := nI AA) (kd := kd) (oA := oA) (oB := oB) (oC := oC) (ln := ln) (ip := ip) (yb := yb) (sa := sa) (pc := pc) (oc := oc) (bv := bv) (fl := fl) (yv := yv) (el := el) (ou := ou) (c := 13) (p := p) (b := oB p) (nx := nI (p + 1)) (v := -1000) (ar := 0) (q := q) hN hm (by decide) (by decide) (by decide) (by omega) hne
    rw [e3] at hY
    by_cases hf : Q < 16
    · have wo : vp_in (nI (16 * m + Q)) 32 := vp_in_nI (by omega) (by omega)
      have lt : nI Q < 16 := nI_lt (b := 16) hf (by omega)
      refine ⟨(lg, og, tp, vt, iv, nI CC, nI AA, nI N, kd, oA, oB, oC, ln, ip, sa, upd pc m (nI (p + 1)), upd fl m 0, bh, vl, el, upd ou (16 * m + Q) (vl (32 * m + q)), upd oc m (nI (Q + 1)), bv, so, bd, fi, fw, se, sw, ts), (nI CC, nI AA, nI N, kd, oA, oB, oC, ln, ip, yb, sa, upd pc m (nI (p + 1)), upd oc m (nI (Q + 1)), bv, upd fl m 0, yv, el, upd ou (16 * m + Q) (vl (32 * m + q))), zz_in ⟨⟨c1, c2, c3, c4, c5, c6⟩, hS, zw_Moc (zs_M hM rfl (by omega) (Or.inl rfl)) rfl (by omega), hV, hO⟩, fun post h => ?_, fun post h => zt_in hN hm hpc hp hk (by decide) ?_⟩
      · unfold wpX_step
        dsimp only
        rw [nI_clamp (n := m) (by omega)]
        refine ⟨w2, nm_r hpc (br_t (nI_lt hp (by omega)) ?_)⟩
        rw [nI_clamp (n := p) (by omega)]
        refine ⟨w, nm_r hk (br_f (by decide) (br_f (by decide) (br_f (by decide) (br_f (by decide) (br_f (by decide) (br_f (by decide) (br_f (by decide) (br_f (by decide) (br_f (by decide) (br_f (by decide) (br_f (by decide) (br_f (by decide) (br_f (by decide) (br_f (by decide) (br_f (by decide) (br_t rfl (?_)))))))))))))))))⟩
        unfold wpX_stepOut
        dsimp only
        rw [nI_clamp (n := p) (by omega), ha]
        refine ⟨w, zs_lack0 hm hq2 e1 ?_⟩
        dsimp only
        refine br_t rfl ?_
        rw [nI_clamp (n := m) (by omega), hoc, ha, zn_32, zn_16, nI_clamp (n := 32 * m + q) (by omega), nI_clamp (n := 16 * m + Q) (by omega), nI_1]
        exact ⟨w2, br_t lt ⟨w2, w, wq, wo, nm_e ⟨w2, w2, nm_e (zs_adv hm h)⟩⟩⟩
      · rw [ha]
        refine hY post (br_f (by decide) (br_f (by decide) (br_f (by decide) (br_f (by decide) (br_f (by decide) (br_f (by decide) (br_t rfl (br_f (by decide) (br_f (by decide) (br_f (by decide) (br_t rfl ?_)))))))))))
        rw [nI_clamp (n := m) (by omega), hoc, zn_16, nI_clamp (n := 16 * m + Q) (by omega), nI_1 Q]
        exact ⟨w2, br_t lt ⟨w2, wo, nm_e ⟨w2, w2, nm_e (br_f (by decide) (zt_701n hm (Or.inl rfl) h))⟩⟩⟩
    · have nlt : ¬ nI Q < 16 := nI_nlt (b := 16) (by omega) (by omega)
      refine ⟨(lg, og, tp, vt, iv, nI CC, nI AA, nI N, kd, oA, oB, oC, ln, ip, upd sa m 7, pc, fl, bh, vl, el, ou, oc, bv, so, bd, fi, fw, se, sw, ts), (nI CC, nI AA, nI N, kd, oA, oB, oC, ln, ip, yb, upd sa m 7, pc, oc, bv, fl, yv, el, ou), zz_in R2, fun post h => ?_, fun post h => zt_in hN hm hpc hp hk (by decide) ?_⟩
      · unfold wpX_step
        dsimp only
        rw [nI_clamp (n := m) (by omega)]
        refine ⟨w2, nm_r hpc (br_t (nI_lt hp (by omega)) ?_)⟩
        rw [nI_clamp (n := p) (by omega)]
        refine ⟨w, nm_r hk (br_f (by decide) (br_f (by decide) (br_f (by decide) (br_f (by decide) (br_f (by decide) (br_f (by decide) (br_f (by decide) (br_f (by decide) (br_f (by decide) (br_f (by decide) (br_f (by decide) (br_f (by decide) (br_f (by decide) (br_f (by decide) (br_f (by decide) (br_t rfl (?_)))))))))))))))))⟩
        unfold wpX_stepOut
        dsimp only
        rw [nI_clamp (n := p) (by omega), ha]
        refine ⟨w, zs_lack0 hm hq2 e1 ?_⟩
        dsimp only
        refine br_t rfl ?_
        rw [nI_clamp (n := m) (by omega), hoc, ha, zn_32, zn_16, nI_clamp (n := 32 * m + q) (by omega), nI_clamp (n := 16 * m + Q) (by omega)]
        exact ⟨w2, br_f nlt ⟨w2, nm_e h⟩⟩
      · rw [ha]
        refine hY post (br_f (by decide) (br_f (by decide) (br_f (by decide) (br_f (by decide) (br_f (by decide) (br_f (by decide) (br_t rfl (br_f (by decide) (br_f (by decide) (br_f (by decide) (br_t rfl ?_)))))))))))
        rw [nI_clamp (n := m) (by omega), hoc]
        exact ⟨w2, br_f nlt ⟨w2, nm_e h⟩⟩
theorem zw_11 (R : zz_R CC AA N kd oA oB oC ln ip pc fl bh vl el oc so bd yv) (hm : m < 2) (hpc : pc m = nI p) (hp : p < N) (hk : kd p = 11) {q : Nat} (hq : q < p) (ha : oA p = nI q) (hkq : kd q = 10) :
    zu_Out (fun post => wpX_step post (lg, og, tp, vt, iv, nI CC, nI AA, nI N, kd, oA, oB, oC, ln, ip, sa, pc, fl, bh, vl, el, ou, oc, bv, so, bd, fi, fw, se, sw, ts) (nI m)) (fun post => wpY_step post (nI CC, nI AA, nI N, kd, oA, oB, oC, ln, ip, yb, sa, pc, oc, bv, fl, yv, el, ou) (nI m)) := by
  have R2 := R
  obtain ⟨⟨c1, c2, c3, c4, c5, c6⟩, hS, hM, hV, hO⟩ := R
  have w2 : vp_in (nI m) 2 := vp_in_nI hm (by omega)
  have w : vp_in (nI p) 32 := vp_in_nI (by omega) (by omega)
  have hN : N ≤ 32 := by omega
  have hp2 : p < 32 := by omega
  have hq2 : q < 32 := by omega
  have wq : vp_in (nI (32 * m + q)) 64 := vp_in_nI (by omega) (by omega)
  have wc : vp_in (nI q) 32 := vp_in_nI hq2 (by omega)
  obtain ⟨kk, hkk, hbq⟩ := zw_ck c6 (by omega : q < N) hkq
  have hl2 := (hS.1 kk (by omega)).2
  rcases hV m q hm hq2 with ⟨e1, e2⟩ | ⟨e1, _, e3, e4, e5⟩
  · refine ⟨(lg, og, tp, vt, iv, nI CC, nI AA, nI N, kd, oA, oB, oC, ln, ip, upd sa m 6, pc, fl, bh, vl, el, ou, oc, bv, so, bd, fi, fw, se, sw, ts), (nI CC, nI AA, nI N, kd, oA, oB, oC, ln, ip, yb, upd sa m 6, pc, oc, bv, fl, yv, el, ou), zz_in R2, fun post h => ?_, fun post h => ?_⟩
    · unfold wpX_step
      dsimp only
      rw [nI_clamp (n := m) (by omega)]
      refine ⟨w2, nm_r hpc (br_t (nI_lt hp (by omega)) ?_)⟩
      rw [nI_clamp (n := p) (by omega)]
      refine ⟨w, nm_r hk (br_f (by decide) (br_f (by decide) (br_f (by decide) (br_f (by decide) (br_f (by decide) (br_f (by decide) (br_f (by decide) (br_f (by decide) (br_f (by decide) (br_f (by decide) (br_f (by decide) (br_f (by decide) (br_f (by decide) (br_t rfl (?_)))))))))))))))⟩
      unfold wpX_stepLoad
      dsimp only
      rw [nI_clamp (n := p) (by omega)]
      refine ⟨w, nm_r ha (zs_lack1 hm hq2 e1 (br_f (by decide) h))⟩
    · refine zt_in hN hm hpc hp hk (by decide) ?_
      rw [ha]
      exact zt_lu hN hm (by omega) e2 h
  · have hne : ¬ yv (32 * m + q) = -1000 := by rw [e3, qn_eq, qn_m1000]; omega
    obtain ⟨y, hY⟩ := zt_l (ce := nI CC) (ac := nI AA) (kd := kd) (oA := oA) (oB := oB) (oC := oC) (ln := ln) (ip := ip) (yb := yb) (sa := sa) (pc := pc) (oc := oc) (bv := bv) (fl := fl) (yv := yv) (el := el) (ou := ou) (p := p) (b := oB p) (nx := nI (p + 1)) (v := -1000) (ar := 0) (q := q) hN hm (by omega) hbq hne
    rw [e3] at hY
    by_cases hx : vl (32 * m + q) < 0 ∨ ¬ vl (32 * m + q) < ln kk
    · refine ⟨(lg, og, tp, vt, iv, nI CC, nI AA, nI N, kd, oA, oB, oC, ln, ip, upd sa m 8, pc, fl, bh, vl, el, ou, oc, bv, so, bd, fi, fw, se, sw, ts), (nI CC, nI AA, nI N, kd, oA, oB, oC, ln, ip, yb, upd sa m 8, pc, oc, bv, fl, yv, el, ou), zz_in R2, fun post h => ?_, fun post h => zt_in hN hm hpc hp hk (by decide) ?_⟩
      · unfold wpX_step
        dsimp only
        rw [nI_clamp (n := m) (by omega)]
        refine ⟨w2, nm_r hpc (br_t (nI_lt hp (by omega)) ?_)⟩
        rw [nI_clamp (n := p) (by omega)]
        refine ⟨w, nm_r hk (br_f (by decide) (br_f (by decide) (br_f (by decide) (br_f (by decide) (br_f (by decide) (br_f (by decide) (br_f (by decide) (br_f (by decide) (br_f (by decide) (br_f (by decide) (br_f (by decide) (br_f (by decide) (br_f (by decide) (br_t rfl (?_)))))))))))))))⟩
        unfold wpX_stepLoad
        dsimp only
        rw [nI_clamp (n := p) (by omega)]
        refine ⟨w, nm_r ha (zs_lack0 hm hq2 e1 ?_)⟩
        dsimp only
        refine br_t rfl ?_
        rw [zn_32, nI_clamp (n := 32 * m + q) (by omega), nI_clamp (n := q) (by omega), hbq]
        exact ⟨wq, nm_e ⟨wc, nm_e (zw_str1 hm (by omega) hx (br_f (by decide) h))⟩⟩
      · rw [ha]
        exact hY post (zt_wild hm (by omega) rfl hx h)
    · have h0 : ¬ vl (32 * m + q) < 0 := fun h => hx (Or.inl h)
      have hl : vl (32 * m + q) < ln kk := Classical.byContradiction fun h => hx (Or.inr h)
      obtain ⟨xx, hxx, ex⟩ := nI_of h0
      have hl3 : (xx : Int) < 16 := by
        have h4 := hl
        rw [ex, qn_lt, qn_n hxx] at h4
        omega
      have we : vp_in (nI (48 * m + 16 * kk + xx)) 96 := vp_in_nI (by omega) (by omega)
      have hv1 := (hM.2 (48 * m + 16 * kk + xx) (by omega)).1
      have hv2 := (hM.2 (48 * m + 16 * kk + xx) (by omega)).2
      refine ⟨(lg, og, tp, vt, iv, nI CC, nI AA, nI N, kd, oA, oB, oC, ln, ip, sa, upd pc m (nI (p + 1)), upd fl m 0, upd bh (32 * m + p) 1, upd vl (32 * m + p) (el (48 * m + 16 * kk + xx)), el, ou, oc, bv, so, bd, fi, fw, se, sw, ts), (nI CC, nI AA, nI N, kd, oA, oB, oC, ln, ip, yb, sa, upd pc m (nI (p + 1)), oc, bv, upd fl m 0, upd yv (32 * m + p) (el (48 * m + 16 * kk + xx)), el, ou), zz_in ⟨⟨c1, c2, c3, c4, c5, c6⟩, hS, zs_M hM rfl (by omega) (Or.inl rfl), zs_V hV hp hp2 hv1 hv2, hO⟩, fun post h => ?_, fun post h => zt_in hN hm hpc hp hk (by decide) ?_⟩
      · unfold wpX_step
        dsimp only
        rw [nI_clamp (n := m) (by omega)]
        refine ⟨w2, nm_r hpc (br_t (nI_lt hp (by omega)) ?_)⟩
        rw [nI_clamp (n := p) (by omega)]
        refine ⟨w, nm_r hk (br_f (by decide) (br_f (by decide) (br_f (by decide) (br_f (by decide) (br_f (by decide) (br_f (by decide) (br_f (by decide) (br_f (by decide) (br_f (by decide) (br_f (by decide) (br_f (by decide) (br_f (by decide) (br_f (by decide) (br_t rfl (?_)))))))))))))))⟩
        unfold wpX_stepLoad
        dsimp only
        rw [nI_clamp (n := p) (by omega)]
        refine ⟨w, nm_r ha (zs_lack0 hm hq2 e1 ?_)⟩
        dsimp only
        refine br_t rfl ?_
        rw [zn_32, nI_clamp (n := 32 * m + q) (by omega), nI_clamp (n := q) (by omega), hbq]
        refine ⟨wq, nm_e ⟨wc, nm_e (zw_str0 (by omega) h0 hl ?_)⟩⟩
        dsimp only
        refine br_t rfl ?_
        rw [ex, zn_48, nI_clamp (n := 48 * m + 16 * kk + xx) (by omega)]
        exact ⟨we, zs_fin hm hp2 h⟩
      · rw [ha]
        refine hY post (zt_225 hm (by omega) rfl h0 hl (br_f (by decide) (br_f (by decide) (br_f (by decide) (br_f (by decide) (br_f (by decide) (br_f (by decide) (br_t rfl (br_f (by decide) (br_t rfl ?_))))))))))
        rw [ex, zn_3, nI_clamp (n := 48 * m + 16 * kk + xx) (by omega)]
        exact ⟨we, nm_e (br_f (by decide) (br_f (by decide) (br_f (by decide) (zt_701 hm hp2 hv1 (Or.inl rfl) h))))⟩
theorem zw_12 (R : zz_R CC AA N kd oA oB oC ln ip pc fl bh vl el oc so bd yv) (hm : m < 2) (hpc : pc m = nI p) (hp : p < N) (hk : kd p = 12) {q q2 : Nat} (hq : q < p) (ha : oA p = nI q) (hkq : kd q = 10) (hq2 : q2 < p) (hb : oB p = nI q2) :
    zu_Out (fun post => wpX_step post (lg, og, tp, vt, iv, nI CC, nI AA, nI N, kd, oA, oB, oC, ln, ip, sa, pc, fl, bh, vl, el, ou, oc, bv, so, bd, fi, fw, se, sw, ts) (nI m)) (fun post => wpY_step post (nI CC, nI AA, nI N, kd, oA, oB, oC, ln, ip, yb, sa, pc, oc, bv, fl, yv, el, ou) (nI m)) := by
  have R2 := R
  obtain ⟨⟨c1, c2, c3, c4, c5, c6⟩, hS, hM, hV, hO⟩ := R
  have w2 : vp_in (nI m) 2 := vp_in_nI hm (by omega)
  have w : vp_in (nI p) 32 := vp_in_nI (by omega) (by omega)
  have hN : N ≤ 32 := by omega
  have hp2 : p < 32 := by omega
  have hqa : q < 32 := by omega
  have hqb : q2 < 32 := by omega
  have wq : vp_in (nI (32 * m + q)) 64 := vp_in_nI (by omega) (by omega)
  have wq2 : vp_in (nI (32 * m + q2)) 64 := vp_in_nI (by omega) (by omega)
  have wc : vp_in (nI q) 32 := vp_in_nI hqa (by omega)
  obtain ⟨kk, hkk, hbq⟩ := zw_ck c6 (by omega : q < N) hkq
  have hl2 := (hS.1 kk (by omega)).2
  rcases hV m q hm hqa with ⟨e1, e2⟩ | ⟨e1, _, e3, e4, e5⟩
  · refine ⟨(lg, og, tp, vt, iv, nI CC, nI AA, nI N, kd, oA, oB, oC, ln, ip, upd sa m 6, pc, fl, bh, vl, el, ou, oc, bv, so, bd, fi, fw, se, sw, ts), (nI CC, nI AA, nI N, kd, oA, oB, oC, ln, ip, yb, upd sa m 6, pc, oc, bv, fl, yv, el, ou), zz_in R2, fun post h => ?_, fun post h => ?_⟩
    · unfold wpX_step
      dsimp only
      rw [nI_clamp (n := m) (by omega)]
      refine ⟨w2, nm_r hpc (br_t (nI_lt hp (by omega)) ?_)⟩
      rw [nI_clamp (n := p) (by omega)]
      refine ⟨w, nm_r hk (br_f (by decide) (br_f (by decide) (br_f (by decide) (br_f (by decide) (br_f (by decide) (br_f (by decide) (br_f (by decide) (br_f (by decide) (br_f (by decide) (br_f (by decide) (br_f (by decide) (br_f (by decide) (br_f (by decide) (br_f (by decide) (br_t rfl (?_))))))))))))))))⟩
      unfold wpX_stepStore
      dsimp only
      rw [nI_clamp (n := p) (by omega)]
      refine ⟨w, nm_r ha (zs_lack1 hm hqa e1 (br_f (by decide) h))⟩
    · refine zt_in hN hm hpc hp hk (by decide) ?_
      rw [ha, hb]
      exact zt_tu hN hm (by omega) (by omega) (Or.inl e2) h
  · have hne : ¬ yv (32 * m + q) = -1000 := by rw [e3, qn_eq, qn_m1000]; omega
    rcases hV m q2 hm hqb with ⟨f1, f2⟩ | ⟨f1, _, f3, f4, f5⟩
    · refine ⟨(lg, og, tp, vt, iv, nI CC, nI AA, nI N, kd, oA, oB, oC, ln, ip, upd sa m 6, pc, fl, bh, vl, el, ou, oc, bv, so, bd, fi, fw, se, sw, ts), (nI CC, nI AA, nI N, kd, oA, oB, oC, ln, ip, yb, upd sa m 6, pc, oc, bv, fl, yv, el, ou), zz_in R2, fun post h => ?_, fun post h => ?_⟩
      · unfold wpX_step
        dsimp only
        rw [nI_clamp (n := m) (by omega)]
        refine ⟨w2, nm_r hpc (br_t (nI_lt hp (by omega)) ?_)⟩
        rw [nI_clamp (n := p) (by omega)]
        refine ⟨w, nm_r hk (br_f (by decide) (br_f (by decide) (br_f (by decide) (br_f (by decide) (br_f (by decide) (br_f (by decide) (br_f (by decide) (br_f (by decide) (br_f (by decide) (br_f (by decide) (br_f (by decide) (br_f (by decide) (br_f (by decide) (br_f (by decide) (br_t rfl (?_))))))))))))))))⟩
        unfold wpX_stepStore
        dsimp only
        rw [nI_clamp (n := p) (by omega)]
        refine ⟨w, nm_r ha (zs_lack0 hm hqa e1 ?_)⟩
        dsimp only
        refine br_t rfl ⟨w, ?_⟩
        rw [hb]
        exact zs_lack1 hm hqb f1 (br_f (by decide) h)
      · refine zt_in hN hm hpc hp hk (by decide) ?_
        rw [ha, hb]
        exact zt_tu hN hm (by omega) (by omega) (Or.inr f2) h
    · have hnf : ¬ yv (32 * m + q2) = -1000 := by rw [f3, qn_eq, qn_m1000]; omega
      by_cases hx : vl (32 * m + q) < 0 ∨ ¬ vl (32 * m + q) < ln kk
      · refine ⟨(lg, og, tp, vt, iv, nI CC, nI AA, nI N, kd, oA, oB, oC, ln, ip, upd sa m 8, pc, fl, bh, vl, el, ou, oc, bv, so, bd, fi, fw, se, sw, ts), (nI CC, nI AA, nI N, kd, oA, oB, oC, ln, ip, yb, upd sa m 8, pc, oc, bv, fl, yv, el, ou), zz_in R2, fun post h => ?_, fun post h => zt_in hN hm hpc hp hk (by decide) ?_⟩
        · unfold wpX_step
          dsimp only
          rw [nI_clamp (n := m) (by omega)]
          refine ⟨w2, nm_r hpc (br_t (nI_lt hp (by omega)) ?_)⟩
          rw [nI_clamp (n := p) (by omega)]
          refine ⟨w, nm_r hk (br_f (by decide) (br_f (by decide) (br_f (by decide) (br_f (by decide) (br_f (by decide) (br_f (by decide) (br_f (by decide) (br_f (by decide) (br_f (by decide) (br_f (by decide) (br_f (by decide) (br_f (by decide) (br_f (by decide) (br_f (by decide) (br_t rfl (?_))))))))))))))))⟩
          unfold wpX_stepStore
          dsimp only
          rw [nI_clamp (n := p) (by omega)]
          refine ⟨w, nm_r ha (zs_lack0 hm hqa e1 ?_)⟩
          dsimp only
          refine br_t rfl ⟨w, ?_⟩
          rw [hb]
          refine zs_lack0 hm hqb f1 ?_
          dsimp only
          refine br_t rfl ?_
          rw [zn_32, nI_clamp (n := 32 * m + q) (by omega), nI_clamp (n := q) (by omega), hbq]
          exact ⟨wq, nm_e ⟨wc, nm_e (zw_str1 hm (by omega) hx (br_f (by decide) h))⟩⟩
        · rw [ha, hb]
          refine zt_t hN hm (by omega) (by omega) hbq hne hnf ?_
          rw [e3, f3]
          exact zt_wild hm (by omega) rfl hx h
      · have h0 : ¬ vl (32 * m + q) < 0 := fun h => hx (Or.inl h)
        have hl : vl (32 * m + q) < ln kk := Classical.byContradiction fun h => hx (Or.inr h)
        obtain ⟨xx, hxx, ex⟩ := nI_of h0
        have hl3 : (xx : Int) < 16 := by
          have h4 := hl
          rw [ex, qn_lt, qn_n hxx] at h4
          omega
        have we : vp_in (nI (48 * m + 16 * kk + xx)) 96 := vp_in_nI (by omega) (by omega)
        refine ⟨(lg, og, tp, vt, iv, nI CC, nI AA, nI N, kd, oA, oB, oC, ln, ip, sa, upd pc m (nI (p + 1)), upd fl m 0, bh, vl, upd el (48 * m + 16 * kk + xx) (vl (32 * m + q2)), ou, oc, bv, so, bd, fi, fw, se, sw, ts), (nI CC, nI AA, nI N, kd, oA, oB, oC, ln, ip, yb, sa, upd pc m (nI (p + 1)), oc, bv, upd fl m 0, yv, upd el (48 * m + 16 * kk + xx) (vl (32 * m + q2)), ou), zz_in ⟨⟨c1, c2, c3, c4, c5, c6⟩, hS, zw_Mel (zs_M hM rfl (by omega) (Or.inl rfl)) f4 f5, hV, hO⟩, fun post h => ?_, fun post h => zt_in hN hm hpc hp hk (by decide) ?_⟩
        · unfold wpX_step
          dsimp only
          rw [nI_clamp (n := m) (by omega)]
          refine ⟨w2, nm_r hpc (br_t (nI_lt hp (by omega)) ?_)⟩
          rw [nI_clamp (n := p) (by omega)]
          refine ⟨w, nm_r hk (br_f (by decide) (br_f (by decide) (br_f (by decide) (br_f (by decide) (br_f (by decide) (br_f (by decide) (br_f (by decide) (br_f (by decide) (br_f (by decide) (br_f (by decide) (br_f (by decide) (br_f (by decide) (br_f (by decide) (br_f (by decide) (br_t rfl (?_))))))))))))))))⟩
          unfold wpX_stepStore
          dsimp only
          rw [nI_clamp (n := p) (by omega)]
          refine ⟨w, nm_r ha (zs_lack0 hm hqa e1 ?_)⟩
          dsimp only
          refine br_t rfl ⟨w, ?_⟩
          rw [hb]
          refine zs_lack0 hm hqb f1 ?_
          dsimp only
          refine br_t rfl ?_
          rw [zn_32, nI_clamp (n := 32 * m + q) (by omega), nI_clamp (n := q) (by omega), hbq]
          refine ⟨wq, nm_e ⟨wc, nm_e (zw_str0 (by omega) h0 hl ?_)⟩⟩
          dsimp only
          refine br_t rfl ?_
          rw [ex, zn_48, nI_clamp (n := 48 * m + 16 * kk + xx) (by omega), hb, zn_32, nI_clamp (n := 32 * m + q2) (by omega)]
          exact ⟨w, wq2, we, nm_e (zs_adv hm h)⟩
        · rw [ha, hb]
          refine zt_t hN hm (by omega) (by omega) hbq hne hnf ?_
          rw [e3, f3]
          refine zt_225 hm (by omega) rfl h0 hl (br_f (by decide) (br_f (by decide) (br_f (by decide) (br_f (by decide) (br_f (by decide) (br_f (by decide) (br_t rfl (br_f (by decide) (br_f (by decide) (br_t rfl ?_))))))))))
          rw [ex, zn_3, nI_clamp (n := 48 * m + 16 * kk + xx) (by omega)]
          exact ⟨we, nm_e (br_f (by decide) (br_f (by decide) (zt_701n hm (Or.inl rfl) h)))⟩
end ZW
end
section
section ZP
/-! one step of both: CHECK, and the whole step (written by gen/steps3.py) -/
variable {CC AA N m p : Nat}
variable {lg og tp vt iv ce ac fn : Int32} {kd oA oB oC ln ip sa pc fl bh vl el ou oc bv so bd fi fw se sw ts : Nat → Int32}
variable {yb yv : Nat → Int32}
theorem zp_76 (R : zz_R CC AA N kd oA oB oC ln ip pc fl bh vl el oc so bd yv) (hm : m < 2) (hp : p < N) {kk : Nat} (hkk : kk < 3) (hb : oB p = nI kk) {x o y a sp : Int32} (hv1 : -128 ≤ x.toInt) (hv2 : x.toInt ≤ 127) :
    zu_Out (fun post => wX_stepCheck_76 post (nI m) (nI p) x o lg og tp vt iv (nI CC) (nI AA) (nI N) kd oA oB oC ln ip sa pc fl bh vl el ou oc bv so bd fi fw se sw ts) (fun post => wY_step_563 post (nI m) (nI p) 10 a (nI kk) (nI (p + 1)) 0 x y sp o (nI CC) (nI AA) (nI N) kd oA oB oC ln ip yb sa pc oc bv fl yv el ou) := by
  have R2 := R
  obtain ⟨⟨c1, c2, c3, c4, c5, c6⟩, hS, hM, hV, hO⟩ := R
  have w2 : vp_in (nI m) 2 := vp_in_nI hm (by omega)
  have w : vp_in (nI p) 32 := vp_in_nI (by omega) (by omega)
  have w3 : vp_in (nI kk) 3 := vp_in_nI hkk (by omega)
  have hp2 : p < 32 := by omega
  unfold wX_stepCheck_76 wY_step_563
  rw [nI_clamp (n := m) (by omega), nI_clamp (n := p) (by omega), hb, nI_clamp (n := kk) (by omega)]
  by_cases h2 : (o &&& 2) = 0
  · by_cases hl : x < ln kk
    · exact ⟨(lg, og, tp, vt, iv, nI CC, nI AA, nI N, kd, oA, oB, oC, ln, ip, sa, upd pc m (nI (p + 1)), upd fl m 0, upd bh (32 * m + p) 1, upd vl (32 * m + p) (x), el, ou, oc, upd bv m (bv m + 1), so, bd, fi, fw, se, sw, ts), (nI CC, nI AA, nI N, kd, oA, oB, oC, ln, ip, yb, sa, upd pc m (nI (p + 1)), oc, upd bv m (bv m + 1), upd fl m 0, upd yv (32 * m + p) (x), el, ou), zz_in ⟨⟨c1, c2, c3, c4, c5, c6⟩, hS, zs_M hM rfl (by omega) (Or.inl rfl), zs_V hV hp hp2 hv1 hv2, hO⟩, fun post h => br_t h2 ⟨w2, w2, nm_e ⟨w, w3, br_t hl (zs_fin hm hp2 h)⟩⟩, fun post h => br_t h2 ⟨w2, w2, nm_e ⟨w3, br_t hl (br_f (by decide) (br_f (by decide) (br_f (by decide) (br_f (by decide) (zt_701 hm hp2 hv1 (Or.inl rfl) h)))))⟩⟩⟩
    · exact ⟨(lg, og, tp, vt, iv, nI CC, nI AA, nI N, kd, oA, oB, oC, ln, ip, upd sa m 4, pc, fl, bh, vl, el, ou, oc, upd bv m (bv m + 1), so, bd, fi, fw, se, sw, ts), (nI CC, nI AA, nI N, kd, oA, oB, oC, ln, ip, yb, upd sa m 4, pc, oc, upd bv m (bv m + 1), fl, yv, el, ou), zz_in R2, fun post h => br_t h2 ⟨w2, w2, nm_e ⟨w, w3, br_f hl ⟨w2, nm_e h⟩⟩⟩, fun post h => br_t h2 ⟨w2, w2, nm_e ⟨w3, br_f hl ⟨w2, nm_e h⟩⟩⟩⟩
  · exact ⟨(lg, og, tp, vt, iv, nI CC, nI AA, nI N, kd, oA, oB, oC, ln, ip, sa, upd pc m (nI (p + 1)), upd fl m 0, upd bh (32 * m + p) 1, upd vl (32 * m + p) (x), el, ou, oc, bv, so, bd, fi, fw, se, sw, ts), (nI CC, nI AA, nI N, kd, oA, oB, oC, ln, ip, yb, sa, upd pc m (nI (p + 1)), oc, bv, upd fl m 0, upd yv (32 * m + p) (x), el, ou), zz_in ⟨⟨c1, c2, c3, c4, c5, c6⟩, hS, zs_M hM rfl (by omega) (Or.inl rfl), zs_V hV hp hp2 hv1 hv2, hO⟩, fun post h => br_f h2 (zs_fin hm hp2 h), fun post h => br_f h2 (br_f (by decide) (br_f (by decide) (br_f (by decide) (br_f (by decide) (zt_701 hm hp2 hv1 (Or.inl rfl) h)))))⟩
theorem zp_47 (R : zz_R CC AA N kd oA oB oC ln ip pc fl bh vl el oc so bd yv) (hm : m < 2) (hp : p < N) {kk : Nat} (hkk : kk < 3) (hb : oB p = nI kk) {x o y a sp : Int32} (hv1 : -128 ≤ x.toInt) (hv2 : x.toInt ≤ 127) :
    zu_Out (fun post => wX_stepCheck_47 post (nI m) (nI p) x o lg og tp vt iv (nI CC) (nI AA) (nI N) kd oA oB oC ln ip sa pc fl bh vl el ou oc bv so bd fi fw se sw ts) (fun post => wY_step_531 post (nI m) (nI p) 10 a (nI kk) (nI (p + 1)) 0 x y sp o (nI CC) (nI AA) (nI N) kd oA oB oC ln ip yb sa pc oc bv fl yv el ou) := by
  have w2 : vp_in (nI m) 2 := vp_in_nI hm (by omega)
  unfold wX_stepCheck_47 wY_step_531
  rw [nI_clamp (n := m) (by omega)]
  by_cases h1 : (o &&& 1) = 0
  · by_cases hx : 0 ≤ x
    · obtain ⟨u, v, hR, hX, hY⟩ := zp_76 (lg := lg) (og := og) (tp := tp) (vt := vt) (iv := iv) (kd := kd) (oA := oA) (oB := oB) (oC := oC) (ln := ln) (ip := ip) (sa := sa) (pc := pc) (fl := fl) (bh := bh) (vl := vl) (el := el) (ou := ou) (oc := oc) (bv := upd bv m (bv m + 1)) (so := so) (bd := bd) (fi := fi) (fw := fw) (se := se) (sw := sw) (ts := ts) (yb := yb) (yv := yv) R hm hp hkk hb (x := x) (o := o) (y := y) (a := a) (sp := sp) hv1 hv2
      exact ⟨u, v, hR, fun post h => br_t h1 ⟨w2, w2, nm_e (br_t hx (hX post h))⟩, fun post h => br_t h1 ⟨w2, w2, nm_e (br_t hx (hY post h))⟩⟩
    · exact ⟨(lg, og, tp, vt, iv, nI CC, nI AA, nI N, kd, oA, oB, oC, ln, ip, upd sa m 3, pc, fl, bh, vl, el, ou, oc, upd bv m (bv m + 1), so, bd, fi, fw, se, sw, ts), (nI CC, nI AA, nI N, kd, oA, oB, oC, ln, ip, yb, upd sa m 3, pc, oc, upd bv m (bv m + 1), fl, yv, el, ou), zz_in R, fun post h => br_t h1 ⟨w2, w2, nm_e (br_f hx ⟨w2, nm_e h⟩)⟩, fun post h => br_t h1 ⟨w2, w2, nm_e (br_f hx ⟨w2, nm_e h⟩)⟩⟩
  · obtain ⟨u, v, hR, hX, hY⟩ := zp_76 (lg := lg) (og := og) (tp := tp) (vt := vt) (iv := iv) (kd := kd) (oA := oA) (oB := oB) (oC := oC) (ln := ln) (ip := ip) (sa := sa) (pc := pc) (fl := fl) (bh := bh) (vl := vl) (el := el) (ou := ou) (oc := oc) (bv := bv) (so := so) (bd := bd) (fi := fi) (fw := fw) (se := se) (sw := sw) (ts := ts) (yb := yb) (yv := yv) R hm hp hkk hb (x := x) (o := o) (y := y) (a := a) (sp := sp) hv1 hv2
    exact ⟨u, v, hR, fun post h => br_f h1 (hX post h), fun post h => br_f h1 (hY post h)⟩
theorem zp_10 (R : zz_R CC AA N kd oA oB oC ln ip pc fl bh vl el oc so bd yv) (hm : m < 2) (hpc : pc m = nI p) (hp : p < N) (hk : kd p = 10) {q kk : Nat} (hq : q < p) (ha : oA p = nI q) (hkk : kk < AA) (hb : oB p = nI kk) :
    zu_Out (fun post => wpX_step post (lg, og, tp, vt, iv, nI CC, nI AA, nI N, kd, oA, oB, oC, ln, ip, sa, pc, fl, bh, vl, el, ou, oc, bv, so, bd, fi, fw, se, sw, ts) (nI m)) (fun post => wpY_step post (nI CC, nI AA, nI N, kd, oA, oB, oC, ln, ip, yb, sa, pc, oc, bv, fl, yv, el, ou) (nI m)) := by
  have R2 := R
  obtain ⟨⟨c1, c2, c3, c4, c5, c6⟩, hS, hM, hV, hO⟩ := R
  have w2 : vp_in (nI m) 2 := vp_in_nI hm (by omega)
  have w : vp_in (nI p) 32 := vp_in_nI (by omega) (by omega)
  have hN : N ≤ 32 := by omega
  have hp2 : p < 32 := by omega
  have hq2 : q < 32 := by omega
  have wq : vp_in (nI (32 * m + q)) 64 := vp_in_nI (by omega) (by omega)
  rcases hV m q hm hq2 with ⟨e1, e2⟩ | ⟨e1, _, e3, e4, e5⟩
  · refine ⟨(lg, og, tp, vt, iv, nI CC, nI AA, nI N, kd, oA, oB, oC, ln, ip, upd sa m 6, pc, fl, bh, vl, el, ou, oc, bv, so, bd, fi, fw, se, sw, ts), (nI CC, nI AA, nI N, kd, oA, oB, oC, ln, ip, yb, upd sa m 6, pc, oc, bv, fl, yv, el, ou), zz_in R2, fun post h => ?_, fun post h => ?_⟩
    · unfold wpX_step
      dsimp only
      rw [nI_clamp (n := m) (by omega)]
      refine ⟨w2, nm_r hpc (br_t (nI_lt hp (by omega)) ?_)⟩
      rw [nI_clamp (n := p) (by omega)]
      refine ⟨w, nm_r hk (br_f (by decide) (br_f (by decide) (br_f (by decide) (br_f (by decide) (br_f (by decide) (br_f (by decide) (br_f (by decide) (br_f (by decide) (br_f (by decide) (br_f (by decide) (br_f (by decide) (br_f (by decide) (br_t rfl (?_))))))))))))))⟩
      unfold wpX_stepCheck
      dsimp only
      rw [nI_clamp (n := p) (by omega), ha]
      exact ⟨w, zs_lack1 hm hq2 e1 (br_f (by decide) h)⟩
    · refine zt_in hN hm hpc hp hk (by decide) ?_
      rw [ha]
      exact zt_su hN hm (by decide) (by decide) (by decide) (by decide) (by decide) (by omega) e2 h
  · have hne : ¬ yv (32 * m + q) = -1000 := by rw [e3, qn_eq, qn_m1000]; omega
    obtain ⟨y, hY⟩ := zt_s (ce := nI CC) (ac := nI AA) (kd := kd) (oA := oA) (oB := oB) (oC := oC) (ln := ln) (ip := ip) (yb := yb) (sa := sa) (pc := pc) (oc := oc) (bv := bv) (fl := fl) (yv := yv) (el := el) (ou := ou) (c := 10) (p := p) (b := oB p) (nx := nI (p + 1)) (v := -1000) (ar := 0) (q := q) hN hm (by decide) (by decide) (by decide) (by omega) hne
    rw [e3] at hY
    have xin : ∀ post : SX → Prop, ((nI m = 1 → wpX_redundantHalves (fun r u => match u with | (lg, og, tp, vt, iv, ce, ac, fn, kd, oA, oB, oC, ln, ip, sa, pc, fl, bh, vl2, el, ou, oc, bv, so, bd, fi, fw, se, sw, ts) => wX_stepCheck_47 post (nI m) (nI p) (vl (32 * m + q)) r lg og tp vt iv ce ac fn kd oA oB oC ln ip sa pc fl bh vl2 el ou oc bv so bd fi fw se sw ts) (lg, og, tp, vt, iv, nI CC, nI AA, nI N, kd, oA, oB, oC, ln, ip, sa, pc, fl, bh, vl, el, ou, oc, bv, so, bd, fi, fw, se, sw, ts) (nI p)) ∧ (¬ nI m = 1 → wX_stepCheck_47 post (nI m) (nI p) (vl (32 * m + q)) 0 lg og tp vt iv (nI CC) (nI AA) (nI N) kd oA oB oC ln ip sa pc fl bh vl el ou oc bv so bd fi fw se sw ts)) → wpX_step post (lg, og, tp, vt, iv, nI CC, nI AA, nI N, kd, oA, oB, oC, ln, ip, sa, pc, fl, bh, vl, el, ou, oc, bv, so, bd, fi, fw, se, sw, ts) (nI m) := by
      intro post h
      unfold wpX_step
      dsimp only
      rw [nI_clamp (n := m) (by omega)]
      refine ⟨w2, nm_r hpc (br_t (nI_lt hp (by omega)) ?_)⟩
      rw [nI_clamp (n := p) (by omega)]
      refine ⟨w, nm_r hk (br_f (by decide) (br_f (by decide) (br_f (by decide) (br_f (by decide) (br_f (by decide) (br_f (by decide) (br_f (by decide) (br_f (by decide) (br_f (by decide) (br_f (by decide) (br_f (by decide) (br_f (by decide) (br_t rfl (?_))))))))))))))⟩
      unfold wpX_stepCheck
      dsimp only
      rw [nI_clamp (n := p) (by omega), ha]
      refine ⟨w, zs_lack0 hm hq2 e1 ?_⟩
      dsimp only
      refine br_t rfl ?_
      rw [ha, zn_32, nI_clamp (n := 32 * m + q) (by omega)]
      exact ⟨w, wq, nm_e h⟩
    rcases (by omega : m = 0 ∨ m = 1) with rfl | rfl
    · obtain ⟨u, v, hR, hX, hY2⟩ := zp_47 (lg := lg) (og := og) (tp := tp) (vt := vt) (iv := iv) (kd := kd) (oA := oA) (oB := oB) (oC := oC) (ln := ln) (ip := ip) (sa := sa) (pc := pc) (fl := fl) (bh := bh) (vl := vl) (el := el) (ou := ou) (oc := oc) (bv := bv) (so := so) (bd := bd) (fi := fi) (fw := fw) (se := se) (sw := sw) (ts := ts) (yb := yb) (yv := yv) R2 hm hp (by omega : kk < 3) hb (x := vl (32 * 0 + q)) (o := 0) (y := y) (a := nI q) (sp := 0) e4 e5
      refine ⟨u, v, hR, fun post h => xin post (br_f (by decide) (hX post h)), fun post h => zt_in hN hm hpc hp hk (by decide) ?_⟩
      rw [ha]
      refine hY post ?_
      rw [hb]
      exact br_f (by decide) (br_f (by decide) (br_f (by decide) (br_f (by decide) (br_f (by decide) (br_f (by decide) (br_t rfl (br_t rfl (br_f (by decide) (hY2 post h)))))))))
    · obtain ⟨o, so1, bd1, fi1, fw1, se1, sw1, ts1, yb1, _, hO1, hXr, hYr⟩ := zm_red (lg := lg) (og := og) (tp := tp) (vt := vt) (iv := iv) (kd := kd) (oA := oA) (oB := oB) (oC := oC) (ln := ln) (ip := ip) (sa := sa) (pc := pc) (fl := fl) (bh := bh) (vl := vl) (el := el) (ou := ou) (oc := oc) (bv := bv) (so := so) (bd := bd) (fi := fi) (fw := fw) (se := se) (sw := sw) (ts := ts) (yb := yb) (yv := yv) ⟨c1, c2, c3, c4, c5, c6⟩ hO (nI p)
      obtain ⟨u, v, hR, hX, hY2⟩ := zp_47 (lg := lg) (og := og) (tp := tp) (vt := vt) (iv := iv) (kd := kd) (oA := oA) (oB := oB) (oC := oC) (ln := ln) (ip := ip) (sa := sa) (pc := pc) (fl := fl) (bh := bh) (vl := vl) (el := el) (ou := ou) (oc := oc) (bv := bv) (so := so1) (bd := bd1) (fi := fi1) (fw := fw1) (se := se1) (sw := sw1) (ts := ts1) (yb := yb1) (yv := yv) ⟨⟨c1, c2, c3, c4, c5, c6⟩, hS, hM, hV, hO1⟩ hm hp (by omega : kk < 3) hb (x := vl (32 * 1 + q)) (o := o) (y := y) (a := nI q) (sp := 0) e4 e5
      refine ⟨u, v, hR, fun post h => xin post (br_t rfl (hXr _ (hX post h))), fun post h => zt_in hN hm hpc hp hk (by decide) ?_⟩
      rw [ha]
      refine hY post ?_
      rw [hb]
      exact br_f (by decide) (br_f (by decide) (br_f (by decide) (br_f (by decide) (br_f (by decide) (br_f (by decide) (br_t rfl (br_t rfl (br_t rfl (hYr _ (hY2 post h))))))))))
theorem zp_all (R : zz_R CC AA N kd oA oB oC ln ip pc fl bh vl el oc so bd yv) (hm : m < 2) : zu_Out (fun post => wpX_step post (lg, og, tp, vt, iv, nI CC, nI AA, nI N, kd, oA, oB, oC, ln, ip, sa, pc, fl, bh, vl, el, ou, oc, bv, so, bd, fi, fw, se, sw, ts) (nI m)) (fun post => wpY_step post (nI CC, nI AA, nI N, kd, oA, oB, oC, ln, ip, yb, sa, pc, oc, bv, fl, yv, el, ou) (nI m)) := by
  obtain ⟨⟨p, hp2, hpc⟩, _, _⟩ := R.2.2.1.1 m hm
  by_cases hp : p < N
  · rcases R.1.2.2.2.2.2 p hp with ⟨e, h1, h2⟩ | ⟨e, k, hk, ha⟩ | ⟨e, k, hk, ha⟩ | ⟨e, ⟨q, hq, ha⟩, h1, h2⟩ | ⟨e, ⟨q, hq, ha⟩, q2, hq2, hb⟩ | ⟨e, ⟨q, hq, ha⟩, ⟨q2, hq2, hb⟩, q3, hq3, hd⟩ |
      ⟨e, ⟨q, hq, ha⟩, k, hk, hb⟩ | ⟨e, q, hq, ha, hk⟩ | ⟨e, ⟨q, hq, ha, hk⟩, q2, hq2, hb⟩ | ⟨e, q, hq, ha⟩ | ⟨e, q, hq, ha⟩
    · exact zu_0 R hm hpc hp e h1 h2
    · exact zu_1 R hm hpc hp e hk ha
    · exact zu_2 R hm hpc hp e hk ha
    · rcases e with e | e
      · exact zu_3 R hm hpc hp e hq ha h1 h2
      · exact zu_4 R hm hpc hp e hq ha h1 h2
    · exact zu_5 R hm hpc hp e hq ha hq2 hb
    · rcases e with e | e | e | e
      · exact zw_6 R hm hpc hp e hq ha hq2 hb hq3 hd
      · exact zw_7 R hm hpc hp e hq ha hq2 hb hq3 hd
      · exact zw_8 R hm hpc hp e hq ha hq2 hb hq3 hd
      · exact zw_9 R hm hpc hp e hq ha hq2 hb hq3 hd
    · exact zp_10 R hm hpc hp e hq ha hk hb
    · exact zw_11 R hm hpc hp e hq ha hk
    · exact zw_12 R hm hpc hp e hq ha hk hq2 hb
    · exact zw_13 R hm hpc hp e hq ha
    · exact zu_14 R hm hpc hp e hq ha
  · exact zu_done R hm hpc (by omega) hp2
end ZP
end
section
section ZQ
/-! run -/
theorem zq_T (x : Int32) : ∃ T, 1 ≤ T ∧ T ≤ 100 ∧ (∀ P : Int32 → Prop, P (nI T) → ((nI 1 ≤ x → ((x ≤ nI 100 → P x) ∧ (¬ x ≤ nI 100 → P (nI 100)))) ∧ (¬ nI 1 ≤ x → P (nI 1)))) ∧ ∀ s, 0 < s → s < 100 → (x ≤ nI s ↔ T ≤ s) := by
  by_cases h1 : nI 1 ≤ x
  · by_cases h2 : x ≤ nI 100
    · have h0 : ¬ x < 0 := by
        rw [qn_lt, qn_0]
        rw [qn_le, qn_n (by omega)] at h1
        omega
      obtain ⟨j, hj, rfl⟩ := nI_of h0
      rw [nI_leI (by omega) (by omega)] at h1 h2
      exact ⟨j, h1, h2, fun P hP => br_t (nI_le h1 hj) (br_t (nI_le h2 (by omega)) hP), fun s _ hs => nI_leI hj (by omega)⟩
    · refine ⟨100, by omega, by omega, fun P hP => br_t h1 (br_f h2 hP), fun s _ hs => ⟨fun h => ?_, fun h => by omega⟩⟩
      exfalso
      apply h2
      rw [qn_le, qn_n (by omega)] at h ⊢
      omega
  · refine ⟨1, by omega, by omega, fun P hP => br_f h1 hP, fun s h0 hs => ⟨fun _ => by omega, fun _ => ?_⟩⟩
    rw [qn_le, qn_n (by omega)] at h1 ⊢
    omega
theorem zq_step {k m : Nat} {u : SX} {v : SY} (I : i_Rel k u v) (hm : m < 2) : zu_Out (fun post => wpX_step post u (nI m)) (fun post => wpY_step post v (nI m)) := by
  refine zz_el (P := fun u v => zu_Out (fun post => wpX_step post u (nI m)) (fun post => wpY_step post v (nI m))) ?_ I
  intro lg og tp vt iv CC AA N kd oA oB oC ln ip sa pc fl bh vl el ou oc bv so bd fi fw se sw ts yb yv R
  exact zp_all R hm
abbrev zq_TX : Type := Int32 → Int32 → Int32 → Int32 → Int32 → Int32 → Int32 → Int32 → Int32 → (Nat → Int32) → (Nat → Int32) → (Nat → Int32) → (Nat → Int32) → (Nat → Int32) → (Nat → Int32) → (Nat → Int32) → (Nat → Int32) → (Nat → Int32) → (Nat → Int32) → (Nat → Int32) → (Nat → Int32) → (Nat → Int32) → (Nat → Int32) → (Nat → Int32) → (Nat → Int32) → (Nat → Int32) → (Nat → Int32) → (Nat → Int32) → (Nat → Int32) → (Nat → Int32) → (Nat → Int32) → Prop
abbrev zq_TY : Type := Int32 → Int32 → Int32 → Int32 → (Nat → Int32) → (Nat → Int32) → (Nat → Int32) → (Nat → Int32) → (Nat → Int32) → (Nat → Int32) → (Nat → Int32) → (Nat → Int32) → (Nat → Int32) → (Nat → Int32) → (Nat → Int32) → (Nat → Int32) → (Nat → Int32) → (Nat → Int32) → (Nat → Int32) → Prop
def zq_jx (J : zq_TX) (x : Int32) (u : SX) : Prop := match u with
  | (lg, og, tp, vt, iv, ce, ac, fn, kd, oA, oB, oC, ln, ip, sa, pc, fl, bh, vl, el, ou, oc, bv, so, bd, fi, fw, se, sw, ts) => J x lg og tp vt iv ce ac fn kd oA oB oC ln ip sa pc fl bh vl el ou oc bv so bd fi fw se sw ts
def zq_jy (J : zq_TY) (x : Int32) (u : SY) : Prop := match u with
  | (ce, ac, fn, kd, oA, oB, oC, ln, ip, yb, sa, pc, oc, bv, fl, yv, el, ou) => J x ce ac fn kd oA oB oC ln ip yb sa pc oc bv fl yv el ou
def zq_rx (post : Int32 → SX → Prop) (J : zq_TX) (T m : Nat) (n : Nat) (x : Int32) (u : SX) : Prop := match u with
  | (lg, og, tp, vt, iv, ce, ac, fn, kd, oA, oB, oC, ln, ip, sa, pc, fl, bh, vl, el, ou, oc, bv, so, bd, fi, fw, se, sw, ts) => wX_run_19 post J (nI T) (nI m) n x lg og tp vt iv ce ac fn kd oA oB oC ln ip sa pc fl bh vl el ou oc bv so bd fi fw se sw ts
def zq_ry (post : Int32 → SY → Prop) (J : zq_TY) (a : Int32) (m : Nat) (n : Nat) (x : Int32) (u : SY) : Prop := match u with
  | (ce, ac, fn, kd, oA, oB, oC, ln, ip, yb, sa, pc, oc, bv, fl, yv, el, ou) => wY_run_9 post J a (nI m) n x ce ac fn kd oA oB oC ln ip yb sa pc oc bv fl yv el ou
theorem zq_cx {post : Int32 → SX → Prop} {J : zq_TX} {T m n i : Nat} (u : SX) (h : zq_rx post J T m n (nI (i + 1)) u) :
    (match u with | (lg, og, tp, vt, iv, ce, ac, fn, kd, oA, oB, oC, ln, ip, sa, pc, fl, bh, vl, el, ou, oc, bv, so, bd, fi, fw, se, sw, ts) => ∀ y : Int32, y = nI i + 1 → wX_run_19 post J (nI T) (nI m) n y lg og tp vt iv ce ac fn kd oA oB oC ln ip sa pc fl bh vl el ou oc bv so bd fi fw se sw ts) := by
  obtain ⟨lg, og, tp, vt, iv, ce, ac, fn, kd, oA, oB, oC, ln, ip, sa, pc, fl, bh, vl, el, ou, oc, bv, so, bd, fi, fw, se, sw, ts⟩ := u
  exact nm_r (nI_1 i) h
theorem zq_cy {post : Int32 → SY → Prop} {J : zq_TY} {a : Int32} {m n i : Nat} (u : SY) (h : zq_ry post J a m n (nI (i + 1)) u) :
    (match u with | (ce, ac, fn, kd, oA, oB, oC, ln, ip, yb, sa, pc, oc, bv, fl, yv, el, ou) => ∀ y : Int32, y = nI i + 1 → wY_run_9 post J a (nI m) n y ce ac fn kd oA oB oC ln ip yb sa pc oc bv fl yv el ou) := by
  obtain ⟨ce, ac, fn, kd, oA, oB, oC, ln, ip, yb, sa, pc, oc, bv, fl, yv, el, ou⟩ := u
  exact nm_r (nI_1 i) h
section ZQY
variable {ce ac fn : Int32} {kd oA oB oC ln ip yb sa pc oc bv fl yv el ou : Nat → Int32}
/-- the reference runs idly to its end -/
theorem zq_idle {post : Int32 → SY → Prop} {J : zq_TY} {a : Int32} {m T : Nat} (hm : m < 2) (hT : ∀ s, 0 < s → s < 100 → (a ≤ nI s ↔ T ≤ s)) (hT1 : 1 ≤ T) (h : J (nI (m + 1)) ce ac fn kd oA oB oC ln ip yb sa pc oc bv fl yv el ou) :
    ∀ d s : Nat, s + d = 100 → (T ≤ s ∨ ¬ sa m = 1) → wY_run_9 post J a (nI m) (d + 1) (nI s) ce ac fn kd oA oB oC ln ip yb sa pc oc bv fl yv el ou := by
  have w2 : vp_in (nI m) 2 := vp_in_nI hm (by omega)
  intro d
  induction d with
  | zero =>
    intro s hs _
    have e : s = 100 := by omega
    subst e
    exact br_t (nI_le (a := 100) (b := 100) (by omega) (by omega)) (nm_r (nI_1 m) h)
  | succ d ih =>
    intro s hs hi
    have hnot : ¬ (100 : Int32) ≤ nI s := nI_ge (b := 100) (by omega) (by omega)
    have next := ih (s + 1) (by omega) (by
      rcases hi with hi | hi
      · exact Or.inl (by omega)
      · exact Or.inr hi)
    have idle : ¬ sa m = 1 → wY_run_24 post J (wY_run_9 post J a (nI m) (d + 1)) a (nI m) (nI s) ce ac fn kd oA oB oC ln ip yb sa pc oc bv fl yv el ou := by
      intro hz
      unfold wY_run_24
      rw [nI_clamp (n := m) (by omega)]
      exact ⟨w2, br_f hz (nm_r (nI_1 s) next)⟩
    refine br_f hnot ?_
    by_cases h0 : s = 0
    · subst h0
      exact br_t rfl (idle (hi.resolve_left (by omega)))
    · have hne : ¬ nI s = 0 := nI_ne0 (by omega) (by omega)
      by_cases hp : T ≤ s
      · exact br_f hne (br_t ((hT s (by omega) (by omega)).mpr hp) (nm_r (nI_1 s) next))
      · exact br_f hne (br_f (fun e => hp ((hT s (by omega) (by omega)).mp e)) (idle (hi.resolve_left hp)))
end ZQY
/-- one machine's steps on both sides -/
theorem zq_loop {a : Int32} {m T : Nat} (hm : m < 2) (hT1 : 1 ≤ T) (hT2 : T ≤ 100) (hT : ∀ s, 0 < s → s < 100 → (a ≤ nI s ↔ T ≤ s)) :
    ∀ (d i : Nat) (u : SX) (v : SY), i + d = T → i_Rel 0 u v → ∃ (u' : SX) (v' : SY), i_Rel 0 u' v' ∧
      (∀ (post : Int32 → SX → Prop) (J : zq_TX), zq_jx J (nI (m + 1)) u' → zq_rx post J T m (d + 1) (nI i) u) ∧
      (∀ (post : Int32 → SY → Prop) (J : zq_TY), zq_jy J (nI (m + 1)) v' → ∃ n : Nat, zq_ry post J a m n (nI i) v) := by
  have w2 : vp_in (nI m) 2 := vp_in_nI hm (by omega)
  intro d
  induction d with
  | zero =>
    intro i u v hi I
    have e : i = T := by omega
    subst e
    refine zz_el (P := fun u v => ∃ (u' : SX) (v' : SY), i_Rel 0 u' v' ∧
      (∀ (post : Int32 → SX → Prop) (J : zq_TX), zq_jx J (nI (m + 1)) u' → zq_rx post J i m (0 + 1) (nI i) u) ∧
      (∀ (post : Int32 → SY → Prop) (J : zq_TY), zq_jy J (nI (m + 1)) v' → ∃ n : Nat, zq_ry post J a m n (nI i) v)) ?_ I
    intro lg og tp vt iv CC AA N kd oA oB oC ln ip sa pc fl bh vl el ou oc bv so bd fi fw se sw ts yb yv R
    exact ⟨_, _, zz_in R, fun post J h => br_t (nI_le (Nat.le_refl i) (by omega)) (nm_r (nI_1 m) h), fun post J h => ⟨100 - i + 1, zq_idle hm hT hT1 h (100 - i) i (by omega) (Or.inl (Nat.le_refl i))⟩⟩
  | succ d ih =>
    intro i u v hi I
    have I2 := I
    obtain ⟨u1, v1, R1, hX, hY⟩ := zq_step I hm
    obtain ⟨u', v', R', hx', hy'⟩ := ih (i + 1) u1 v1 (by omega) R1
    revert hX hY
    refine zz_el (P := fun u v => (∀ post : SX → Prop, post u1 → wpX_step post u (nI m)) → (∀ post : SY → Prop, post v1 → wpY_step post v (nI m)) → ∃ (u' : SX) (v' : SY), i_Rel 0 u' v' ∧
      (∀ (post : Int32 → SX → Prop) (J : zq_TX), zq_jx J (nI (m + 1)) u' → zq_rx post J T m (d + 1 + 1) (nI i) u) ∧
      (∀ (post : Int32 → SY → Prop) (J : zq_TY), zq_jy J (nI (m + 1)) v' → ∃ n : Nat, zq_ry post J a m n (nI i) v)) ?_ I2
    intro lg og tp vt iv CC AA N kd oA oB oC ln ip sa pc fl bh vl el ou oc bv so bd fi fw se sw ts yb yv R hX hY
    have hnot : ¬ nI T ≤ nI i := nI_ge (by omega) (by omega)
    have cl : (nI m).toNatClampNeg = m := nI_clamp (by omega)
    by_cases hst : sa m = 1
    · refine ⟨u', v', R', fun post J h => br_f hnot ⟨w2, br_t (by rw [cl]; exact hst) (hX _ (zq_cx u1 (hx' post J h)))⟩, fun post J h => ?_⟩
      obtain ⟨n, hn⟩ := hy' post J h
      refine ⟨n + 1, ?_⟩
      have h24 : wY_run_24 post J (wY_run_9 post J a (nI m) n) a (nI m) (nI i) (nI CC) (nI AA) (nI N) kd oA oB oC ln ip yb sa pc oc bv fl yv el ou := And.intro w2 (br_t (by rw [cl]; exact hst) (hY _ (zq_cy v1 hn)))
      refine br_f (nI_ge (b := 100) (by omega) (by omega)) ?_
      by_cases h0 : i = 0
      · subst h0
        exact br_t rfl h24
      · exact br_f (nI_ne0 (by omega) (by omega)) (br_f (fun e => by have := (hT i (by omega) (by omega)).mp e; omega) h24)
    · exact ⟨_, _, zz_in R, fun post J h => br_f hnot ⟨w2, br_f (by rw [cl]; exact hst) (nm_r (nI_1 m) h)⟩, fun post J h => ⟨100 - i + 1, zq_idle hm hT hT1 h (100 - i) i (by omega) (Or.inr hst)⟩⟩
def zq_r11 (post : Int32 → SX → Prop) (T : Nat) (n : Nat) (x : Int32) (u : SX) : Prop := match u with
  | (lg, og, tp, vt, iv, ce, ac, fn, kd, oA, oB, oC, ln, ip, sa, pc, fl, bh, vl, el, ou, oc, bv, so, bd, fi, fw, se, sw, ts) => wX_run_11 post (nI T) n x lg og tp vt iv ce ac fn kd oA oB oC ln ip sa pc fl bh vl el ou oc bv so bd fi fw se sw ts
def zq_y2 (post : Int32 → SY → Prop) (a : Int32) (n : Nat) (x : Int32) (u : SY) : Prop := match u with
  | (ce, ac, fn, kd, oA, oB, oC, ln, ip, yb, sa, pc, oc, bv, fl, yv, el, ou) => wY_run_2 post a n x ce ac fn kd oA oB oC ln ip yb sa pc oc bv fl yv el ou
theorem zq_mach {a : Int32} {m T : Nat} (hm : m < 2) (hT1 : 1 ≤ T) (hT2 : T ≤ 100) (hT : ∀ s, 0 < s → s < 100 → (a ≤ nI s ↔ T ≤ s)) {u : SX} {v : SY} (I : i_Rel 0 u v) :
    ∃ (u' : SX) (v' : SY), i_Rel 0 u' v' ∧ (∀ (post : Int32 → SX → Prop) (n : Nat), zq_r11 post T n (nI (m + 1)) u' → zq_r11 post T (n + 1) (nI m) u) ∧
      (∀ (post : Int32 → SY → Prop) (n : Nat), zq_y2 post a n (nI (m + 1)) v' → zq_y2 post a (n + 1) (nI m) v) := by
  obtain ⟨u', v', R', hx, hy⟩ := zq_loop hm hT1 hT2 hT T 0 u v (by omega) I
  revert hx hy
  refine zz_el (P := fun u v => (∀ (post : Int32 → SX → Prop) (J : zq_TX), zq_jx J (nI (m + 1)) u' → zq_rx post J T m (T + 1) (nI 0) u) →
      (∀ (post : Int32 → SY → Prop) (J : zq_TY), zq_jy J (nI (m + 1)) v' → ∃ n : Nat, zq_ry post J a m n (nI 0) v) → ∃ (u' : SX) (v' : SY), i_Rel 0 u' v' ∧ (∀ (post : Int32 → SX → Prop) (n : Nat), zq_r11 post T n (nI (m + 1)) u' → zq_r11 post T (n + 1) (nI m) u) ∧
      (∀ (post : Int32 → SY → Prop) (n : Nat), zq_y2 post a n (nI (m + 1)) v' → zq_y2 post a (n + 1) (nI m) v)) ?_ I
  intro lg og tp vt iv CC AA N kd oA oB oC ln ip sa pc fl bh vl el ou oc bv so bd fi fw se sw ts yb yv R hx hy
  have hnot : ¬ (2 : Int32) ≤ nI m := nI_ge (b := 2) (by omega) (by omega)
  refine ⟨u', v', R', fun post n h => br_f hnot ⟨T + 1, hx post (wX_run_11 post (nI T) n) h⟩, fun post n h => br_f hnot (hy post (wY_run_2 post a n) h)⟩
theorem zq_end {T n : Nat} {a : Int32} {u : SX} {v : SY} (I : i_Rel 0 u v) : ∃ r : Int32, (∀ post : Int32 → SX → Prop, post r u → zq_r11 post T (n + 1) (nI 2) u) ∧ (∀ post : Int32 → SY → Prop, post r v → zq_y2 post a (n + 1) (nI 2) v) := by
  refine zz_el (P := fun u v => ∃ r : Int32, (∀ post : Int32 → SX → Prop, post r u → zq_r11 post T (n + 1) (nI 2) u) ∧ (∀ post : Int32 → SY → Prop, post r v → zq_y2 post a (n + 1) (nI 2) v)) ?_ I
  intro lg og tp vt iv CC AA N kd oA oB oC ln ip sa pc fl bh vl el ou oc bv so bd fi fw se sw ts yb yv R
  exact ⟨sa 0, fun post h => br_t (nI_le (a := 2) (b := 2) (by omega) (by omega)) h, fun post h => br_t (nI_le (a := 2) (b := 2) (by omega) (by omega)) h⟩
end ZQ
theorem i_vc_run {k : Nat} {u : SX} {v : SY} (I : i_Rel k u v) (hk : k + 5 ≤ 2562) (v1 : Int32) : wpX_run (fun r u' => wpY_run (fun r' v' => r' = r ∧ i_Rel (k + 5) u' v') v v1) u v1 := by
  obtain ⟨T, hT1, hT2, hP, hT⟩ := zq_T v1
  obtain ⟨u1, v1', R1, hx1, hy1⟩ := zq_mach (m := 0) (a := v1) (by omega) hT1 hT2 hT I
  obtain ⟨u2, v2, R2, hx2, hy2⟩ := zq_mach (m := 1) (a := v1) (by omega) hT1 hT2 hT R1
  obtain ⟨r, hxe, hye⟩ := zq_end (T := T) (n := 0) (a := v1) R2
  have hY : ∃ n : Nat, zq_y2 (fun r' v' => r' = r ∧ i_Rel (k + 5) u2 v') v1 n 0 v := ⟨3, hy1 _ 2 (hy2 _ 1 (hye _ ⟨rfl, R2⟩))⟩
  revert hx1 hY
  refine zz_el (P := fun u v => (∀ (post : Int32 → SX → Prop) (n : Nat), zq_r11 post T n (nI (0 + 1)) u1 → zq_r11 post T (n + 1) (nI 0) u) → (∃ n : Nat, zq_y2 (fun r' v' => r' = r ∧ i_Rel (k + 5) u2 v') v1 n 0 v) → wpX_run (fun r u' => wpY_run (fun r' v' => r' = r ∧ i_Rel (k + 5) u' v') v v1) u v1) ?_ I
  intro lg og tp vt iv CC AA N kd oA oB oC ln ip sa pc fl bh vl el ou oc bv so bd fi fw se sw ts yb yv R hx1 hY
  unfold wpX_run
  dsimp only
  refine zh_x hP ⟨3, ?_⟩
  exact hx1 _ 2 (hx2 _ 1 (hxe (fun r u' => wpY_run (fun r' v' => r' = r ∧ i_Rel (k + 5) u' v') (nI CC, nI AA, nI N, kd, oA, oB, oC, ln, ip, yb, sa, pc, oc, bv, fl, yv, el, ou) v1) hY))
end
