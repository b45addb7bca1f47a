section
/-! counting -/
/-- how many t below n have f t -/
def so_cnt (f : Nat → Bool) : Nat → Nat
  | 0 => 0
  | n + 1 => so_cnt f n + (if f n = true then 1 else 0)
theorem so_cnt_s (f : Nat → Bool) (n : Nat) : so_cnt f (n + 1) = so_cnt f n + (if f n = true then 1 else 0) := rfl
theorem so_cnt_le (f : Nat → Bool) (n : Nat) : so_cnt f n ≤ n := by
  induction n with
  | zero => exact Nat.le_refl 0
  | succ n ih =>
    rw [so_cnt_s]
    split <;> omega
theorem so_cnt_congr {f g : Nat → Bool} {n : Nat} (h : ∀ t, t < n → f t = g t) : so_cnt f n = so_cnt g n := by
  induction n with
  | zero => rfl
  | succ n ih => rw [so_cnt_s, so_cnt_s, ih (fun t ht => h t (by omega)), h n (by omega)]
theorem so_cnt_0 {f : Nat → Bool} {n : Nat} (h : ∀ t, t < n → f t = false) : so_cnt f n = 0 := by
  induction n with
  | zero => rfl
  | succ n ih =>
    rw [so_cnt_s, ih (fun t ht => h t (by omega)), h n (by omega)]
    rfl
theorem so_cnt_free {f : Nat → Bool} {n : Nat} (h : so_cnt f n < n) : ∃ j, j < n ∧ f j = false := by
  induction n with
  | zero => exact absurd h (by omega)
  | succ n ih =>
    cases e : f n with
    | false => exact ⟨n, by omega, e⟩
    | true =>
      rw [so_cnt_s, if_pos e] at h
      obtain ⟨j, hj, hf⟩ := ih (by omega)
      exact ⟨j, by omega, hf⟩
/-- a place of a table of truth values is set -/
def so_up (U : Nat → Bool) (k : Nat) (b : Bool) : Nat → Bool := fun j => if j = k then b else U j
/-- a place of a table of numbers is set -/
def so_un (P : Nat → Nat) (k v : Nat) : Nat → Nat := fun j => if j = k then v else P j
theorem so_up_s {U : Nat → Bool} {k : Nat} {b : Bool} : so_up U k b k = b := if_pos rfl
theorem so_up_n {U : Nat → Bool} {k j : Nat} {b : Bool} (h : j ≠ k) : so_up U k b j = U j := if_neg h
theorem so_un_s {P : Nat → Nat} {k v : Nat} : so_un P k v k = v := if_pos rfl
theorem so_un_n {P : Nat → Nat} {k j v : Nat} (h : j ≠ k) : so_un P k v j = P j := if_neg h
theorem so_cnt_hi {U : Nat → Bool} {k n : Nat} {b : Bool} (h : n ≤ k) : so_cnt (so_up U k b) n = so_cnt U n :=
  so_cnt_congr (fun t ht => so_up_n (by omega))
theorem so_cnt_set {U : Nat → Bool} {k n : Nat} (hk : k < n) (h : U k = false) : so_cnt (so_up U k true) n = so_cnt U n + 1 := by
  induction n with
  | zero => exact absurd hk (by omega)
  | succ n ih =>
    rw [so_cnt_s, so_cnt_s]
    by_cases e : k = n
    · subst e
      rw [so_cnt_hi (Nat.le_refl _), so_up_s, h]
      rfl
    · rw [ih (by omega), so_up_n (fun z => e z.symm)]
      exact Nat.add_right_comm _ _ _
theorem so_cnt_clr {U : Nat → Bool} {k n : Nat} (hk : k < n) (h : U k = true) : so_cnt (so_up U k false) n + 1 = so_cnt U n := by
  induction n with
  | zero => exact absurd hk (by omega)
  | succ n ih =>
    rw [so_cnt_s, so_cnt_s]
    by_cases e : k = n
    · subst e
      rw [so_cnt_hi (Nat.le_refl _), so_up_s, h]
      rfl
    · rw [← ih (by omega), so_up_n (fun z => e z.symm)]
      exact Nat.add_right_comm _ _ _
theorem so_b01 (b c : Bool) (h : b = true → c = false) : (if (b || c) = true then 1 else 0 : Nat) = (if b = true then 1 else 0) + (if c = true then 1 else 0) := by
  cases b <;> cases c <;> first | rfl | exact absurd (h rfl) (by decide)
/-- the slots of f are those of g and those of h, and no slot is of both -/
theorem so_cnt_add {f g h : Nat → Bool} {n : Nat} (e : ∀ t, t < n → f t = (g t || h t)) (d : ∀ t, t < n → g t = true → h t = false) : so_cnt f n = so_cnt g n + so_cnt h n := by
  induction n with
  | zero => rfl
  | succ n ih =>
    rw [so_cnt_s, so_cnt_s, so_cnt_s, ih (fun t ht => e t (by omega)) (fun t ht => d t (by omega)), e n (by omega), so_b01 _ _ (d n (by omega))]
    exact Nat.add_add_add_comm _ _ _ _
theorem so_cnt_from {f : Nat → Bool} {a n : Nat} (h : a ≤ n) : so_cnt f n = so_cnt f a + so_cnt (fun t => decide (a ≤ t) && f t) n := by
  induction n with
  | zero =>
    have e : a = 0 := by omega
    subst e
    rfl
  | succ n ih =>
    by_cases e : a = n + 1
    · subst e
      rw [so_cnt_0 (f := fun t => decide (n + 1 ≤ t) && f t) (fun t ht => by
        show (decide (n + 1 ≤ t) && f t) = false
        rw [decide_eq_false (by omega)]
        rfl)]
      rfl
    · have e2 : so_cnt (fun t => decide (a ≤ t) && f t) (n + 1) = so_cnt (fun t => decide (a ≤ t) && f t) n + (if (decide (a ≤ n) && f n) = true then 1 else 0) := rfl
      rw [e2, so_cnt_s, ih (by omega), decide_eq_true (show a ≤ n by omega), Bool.true_and]
      exact Nat.add_assoc _ _ _
theorem so_cnt_to {f : Nat → Bool} {b n : Nat} (h : b ≤ n) : so_cnt (fun t => decide (t < b) && f t) n = so_cnt f b := by
  induction n with
  | zero =>
    have e : b = 0 := by omega
    subst e
    rfl
  | succ n ih =>
    by_cases e : b = n + 1
    · subst e
      exact so_cnt_congr (fun t ht => by
        show (decide (t < n + 1) && f t) = f t
        rw [decide_eq_true ht, Bool.true_and])
    · have e2 : so_cnt (fun t => decide (t < b) && f t) (n + 1) = so_cnt (fun t => decide (t < b) && f t) n + (if (decide (n < b) && f n) = true then 1 else 0) := rfl
      rw [e2, ih (by omega), decide_eq_false (show ¬ n < b by omega), Bool.false_and]
      rfl
/-! one job: in which slots it runs, and how often before a slot -/
def so_run (p c o t : Nat) : Bool := decide (o ≤ t) && decide ((t - o) % p < c)
/-- runs in the first n slots behind the offset -/
def so_rf (p c n : Nat) : Nat := n / p * c + min (n % p) c
theorem so_run_lo {p c o t : Nat} (h : t < o) : so_run p c o t = false := by
  unfold so_run
  rw [decide_eq_false (show ¬ o ≤ t by omega), Bool.false_and]
theorem so_run_hi {p c o t : Nat} (h : o ≤ t) : so_run p c o t = decide ((t - o) % p < c) := by
  unfold so_run
  rw [decide_eq_true h, Bool.true_and]
theorem so_run_iff {p c o t : Nat} : so_run p c o t = true ↔ o ≤ t ∧ (t - o) % p < c := by
  unfold so_run
  rw [Bool.and_eq_true, decide_eq_true_iff, decide_eq_true_iff]
theorem so_dm1 {p n : Nat} (hp : 0 < p) : (n % p + 1 < p ∧ (n + 1) / p = n / p ∧ (n + 1) % p = n % p + 1) ∨ (n % p + 1 = p ∧ (n + 1) / p = n / p + 1 ∧ (n + 1) % p = 0) := by
  have hr : n % p < p := Nat.mod_lt n hp
  have e : n + 1 = (n % p + 1) + p * (n / p) := by
    have := Nat.mod_add_div n p
    omega
  rcases Nat.lt_or_ge (n % p + 1) p with h | h
  · refine Or.inl ⟨h, ?_, ?_⟩
    · rw [e, Nat.add_mul_div_left _ _ hp, Nat.div_eq_of_lt h, Nat.zero_add]
    · rw [e, Nat.add_mul_mod_self_left, Nat.mod_eq_of_lt h]
  · have h' : n % p + 1 = p := by omega
    refine Or.inr ⟨h', ?_, ?_⟩
    · rw [e, Nat.add_mul_div_left _ _ hp, h', Nat.div_self hp, Nat.add_comm]
    · rw [e, Nat.add_mul_mod_self_left, h', Nat.mod_self]
theorem so_rf_s {p c n : Nat} (hp : 0 < p) (hc : c ≤ p) : so_rf p c (n + 1) = so_rf p c n + (if n % p < c then 1 else 0) := by
  unfold so_rf
  rcases so_dm1 (n := n) hp with ⟨h, d, m⟩ | ⟨h, d, m⟩
  · rw [d, m]
    split <;> omega
  · rw [d, m, Nat.add_mul, Nat.one_mul, Nat.zero_min]
    split <;> omega
theorem so_rf_0 {p c : Nat} : so_rf p c 0 = 0 := by
  unfold so_rf
  rw [Nat.zero_div, Nat.zero_mod, Nat.zero_mul, Nat.zero_min]
theorem so_cnt_run {p c o : Nat} (hp : 0 < p) (hc : c ≤ p) (t : Nat) : so_cnt (so_run p c o) t = so_rf p c (t - o) := by
  induction t with
  | zero =>
    rw [Nat.zero_sub, so_rf_0]
    rfl
  | succ t ih =>
    rw [so_cnt_s, ih]
    rcases Nat.lt_or_ge t o with h | h
    · rw [so_run_lo h, show t - o = 0 by omega, show t + 1 - o = 0 by omega]
      rfl
    · rw [so_run_hi h, show t + 1 - o = (t - o) + 1 by omega, so_rf_s hp hc]
      simp only [decide_eq_true_eq]
end
section
/-! the collision test -/
/-- the greatest common divisor as the class walks it, n rounds left -/
def so_g : Nat → Nat → Nat → Nat
  | 0, x, _ => x
  | n + 1, x, y => if y = 0 then x else so_g n y (x % y)
/-- a good period -/
def so_V (p : Nat) : Prop := 2 ≤ p ∧ p ≤ 360 ∧ 360 % p = 0
/-- the check of one pair of periods -/
def so_gk (p q : Nat) : Bool := !(decide (2 ≤ q) && decide (360 % q = 0)) || (decide (0 < so_g 20 p q) && (decide (p % so_g 20 p q = 0) && decide (q % so_g 20 p q = 0)))
def so_gr (p : Nat) : Bool := !(decide (2 ≤ p) && decide (360 % p = 0)) || (List.range 361).all (so_gk p)
theorem so_ga : (List.range 361).all so_gr = true := by decide +kernel
theorem so_gd (p : Nat) (hp : p < 361) (p1 : 2 ≤ p) (p2 : 360 % p = 0) (q : Nat) (hq : q < 361) (q1 : 2 ≤ q) (q2 : 360 % q = 0) : 0 < so_g 20 p q ∧ p % so_g 20 p q = 0 ∧ q % so_g 20 p q = 0 := by
  have h := List.all_eq_true.mp so_ga p (List.mem_range.mpr hp)
  unfold so_gr at h
  rw [decide_eq_true p1, decide_eq_true p2, Bool.and_self, Bool.not_true, Bool.false_or] at h
  have h2 := List.all_eq_true.mp h q (List.mem_range.mpr hq)
  unfold so_gk at h2
  rw [decide_eq_true q1, decide_eq_true q2, Bool.and_self, Bool.not_true, Bool.false_or, Bool.and_eq_true, Bool.and_eq_true] at h2
  exact ⟨of_decide_eq_true h2.1, of_decide_eq_true h2.2.1, of_decide_eq_true h2.2.2⟩
theorem so_gV {p q : Nat} (hp : so_V p) (hq : so_V q) : 0 < so_g 20 p q ∧ so_g 20 p q ∣ p ∧ so_g 20 p q ∣ q ∧ so_g 20 p q ≤ p := by
  obtain ⟨p1, p2, p3⟩ := hp
  obtain ⟨q1, q2, q3⟩ := hq
  obtain ⟨h0, h1, h2⟩ := so_gd p (by omega) p1 p3 q (by omega) q1 q3
  exact ⟨h0, Nat.dvd_of_mod_eq_zero h1, Nat.dvd_of_mod_eq_zero h2, Nat.le_of_dvd (by omega) (Nat.dvd_of_mod_eq_zero h1)⟩
/-- how far behind the other's start the new one begins -/
def so_bh (g o q : Nat) : Nat := (((o : Int) - (q : Int)) % (g : Int)).toNat
theorem so_bh_lt {g o q : Nat} (hg : 0 < g) : so_bh g o q < g := by
  unfold so_bh
  have h1 := Int.emod_nonneg ((o : Int) - (q : Int)) (show (g : Int) ≠ 0 by omega)
  have h2 := Int.emod_lt_of_pos ((o : Int) - (q : Int)) (show (0 : Int) < (g : Int) by omega)
  omega
theorem so_bh_eq {g o q b : Nat} (k : Int) (hb : b < g) (h : (o : Int) - (q : Int) = (b : Int) + (g : Int) * k) : so_bh g o q = b := by
  unfold so_bh
  rw [h, Int.add_mul_emod_self_left, Int.emod_eq_of_lt (by omega) (by omega)]
  exact Int.toNat_natCast b
/-- the room of a new job of period p and offset o beside the job (q, c, s) -/
def so_rb (p q c s o : Nat) : Nat := if c ≤ so_bh (so_g 20 p q) o s then so_g 20 p q - so_bh (so_g 20 p q) o s else 0
theorem so_rb_le {p q c s o : Nat} (hp : so_V p) (hq : so_V q) : so_rb p q c s o ≤ p := by
  have := (so_gV hp hq).2.2.2
  unfold so_rb
  split <;> omega
/-- within the room the two never meet -/
theorem so_dis {p q c s o l t : Nat} (hp : so_V p) (hq : so_V q) (hl : 1 ≤ l) (h : l ≤ so_rb p q c s o) (h1 : so_run p l o t = true) (h2 : so_run q c s t = true) : False := by
  obtain ⟨g0, g1, g2, g3⟩ := so_gV hp hq
  rw [so_run_iff] at h1 h2
  obtain ⟨t1, m1⟩ := h1
  obtain ⟨t2, m2⟩ := h2
  unfold so_rb at h
  generalize so_g 20 p q = g at *
  have hb := so_bh_lt (g := g) (o := o) (q := s) g0
  have hB : ((so_bh g o s : Nat) : Int) = ((o : Int) - (s : Int)) % (g : Int) := by
    unfold so_bh
    exact Int.toNat_of_nonneg (Int.emod_nonneg _ (by omega))
  generalize so_bh g o s = b at *
  have hc : c ≤ b := by
    rcases Nat.lt_or_ge b c with z | z
    · rw [if_neg (by omega)] at h
      omega
    · exact z
  rw [if_pos hc] at h
  have u1 : (t - o) % g = (t - o) % p := by
    rw [← Nat.mod_mod_of_dvd (t - o) g1, Nat.mod_eq_of_lt]
    omega
  have u2 : (t - s) % g = (t - s) % q := by
    rw [← Nat.mod_mod_of_dvd (t - s) g2, Nat.mod_eq_of_lt]
    omega
  rw [← u1] at m1
  rw [← u2] at m2
  have e : (o : Int) - (s : Int) = ((t - s : Nat) : Int) - ((t - o : Nat) : Int) := by omega
  rw [e, Int.sub_emod, ← Int.natCast_emod, ← Int.natCast_emod] at hB
  generalize (t - o) % g = u at *
  generalize (t - s) % g = v at *
  rcases Nat.lt_or_ge v u with z | z
  · have e3 : ((v : Int) - (u : Int)) % (g : Int) = (v : Int) - (u : Int) + (g : Int) := by
      rw [← Int.add_emod_right, Int.emod_eq_of_lt (by omega) (by omega)]
    omega
  · rw [Int.emod_eq_of_lt (by omega) (by omega)] at hB
    omega
/-- the room beside the jobs below k -/
def so_ra (U : Nat → Bool) (P C O : Nat → Nat) (p o : Nat) : Nat → Nat
  | 0 => p
  | k + 1 => if U k = true then min (so_ra U P C O p o k) (so_rb p (P k) (C k) (O k) o) else so_ra U P C O p o k
theorem so_ra_t {U : Nat → Bool} {P C O : Nat → Nat} {p o k : Nat} (h : U k = true) : so_ra U P C O p o (k + 1) = min (so_ra U P C O p o k) (so_rb p (P k) (C k) (O k) o) := if_pos h
theorem so_ra_f {U : Nat → Bool} {P C O : Nat → Nat} {p o k : Nat} (h : U k = false) : so_ra U P C O p o (k + 1) = so_ra U P C O p o k := if_neg (by rw [h]; decide)
theorem so_ra_s {U : Nat → Bool} {P C O : Nat → Nat} {p o k : Nat} : so_ra U P C O p o (k + 1) ≤ so_ra U P C O p o k := by
  cases h : U k with
  | false => rw [so_ra_f h]; exact Nat.le_refl _
  | true => rw [so_ra_t h]; exact Nat.min_le_left _ _
theorem so_ra_mono {U : Nat → Bool} {P C O : Nat → Nat} {p o k n : Nat} (h : k ≤ n) : so_ra U P C O p o n ≤ so_ra U P C O p o k := by
  induction n with
  | zero =>
    have e : k = 0 := by omega
    subst e
    exact Nat.le_refl _
  | succ n ih =>
    by_cases e : k = n + 1
    · subst e
      exact Nat.le_refl _
    · exact Nat.le_trans so_ra_s (ih (by omega))
theorem so_ra_le {U : Nat → Bool} {P C O : Nat → Nat} {p o : Nat} (n : Nat) : so_ra U P C O p o n ≤ p := so_ra_mono (Nat.zero_le n)
theorem so_ra_job {U : Nat → Bool} {P C O : Nat → Nat} {p o k n : Nat} (hk : k < n) (h : U k = true) : so_ra U P C O p o n ≤ so_rb p (P k) (C k) (O k) o :=
  Nat.le_trans (so_ra_mono (show k + 1 ≤ n by omega)) (by rw [so_ra_t h]; exact Nat.min_le_right _ _)
/-- the greatest of f below n -/
def so_mx (f : Nat → Nat) : Nat → Nat
  | 0 => 0
  | k + 1 => max (so_mx f k) (f k)
theorem so_mx_ge {f : Nat → Nat} {k n : Nat} (h : k < n) : f k ≤ so_mx f n := by
  induction n with
  | zero => exact absurd h (by omega)
  | succ n ih =>
    show f k ≤ max (so_mx f n) (f n)
    by_cases e : k = n
    · subst e
      exact Nat.le_max_right _ _
    · exact Nat.le_trans (ih (by omega)) (Nat.le_max_left _ _)
theorem so_mx_le {f : Nat → Nat} {n m : Nat} (h : ∀ k, f k ≤ m) : so_mx f n ≤ m := by
  induction n with
  | zero => exact Nat.zero_le _
  | succ n ih => exact Nat.max_le.mpr ⟨ih, h n⟩
theorem so_mx_at {f : Nat → Nat} {n : Nat} (h : 0 < so_mx f n) : ∃ k, k < n ∧ f k = so_mx f n := by
  induction n with
  | zero => exact absurd h (by show ¬ 0 < 0; omega)
  | succ n ih =>
    have e : so_mx f (n + 1) = max (so_mx f n) (f n) := rfl
    rw [e] at h ⊢
    rcases Nat.lt_or_ge (f n) (so_mx f n) with z | z
    · obtain ⟨k, hk, ek⟩ := ih (by omega)
      exact ⟨k, by omega, by omega⟩
    · exact ⟨n, by omega, by omega⟩
end
section
/-! the picture: U used, P period, C length, O offset of the ten jobs -/
/-- every used job is sane -/
def so_J (U : Nat → Bool) (P C O : Nat → Nat) : Prop := ∀ i, i < 10 → U i = true → so_V (P i) ∧ 1 ≤ C i ∧ C i ≤ P i ∧ O i < P i
/-- the arrays are those of the picture -/
def so_K (U : Nat → Bool) (P C O : Nat → Nat) (a1 a2 a3 a4 : Nat → Int32) : Prop := ∀ i, i < 10 → (U i = false → a1 i = 0) ∧ (U i = true → a1 i = 1 ∧ a2 i = nI (P i) ∧ a3 i = nI (C i) ∧ a4 i = nI (O i))
/-- no two jobs run in one slot -/
def so_D (U : Nat → Bool) (P C O : Nat → Nat) : Prop := ∀ i j t, i < 10 → j < 10 → i ≠ j → U i = true → U j = true → so_run (P i) (C i) (O i) t = true → so_run (P j) (C j) (O j) t = false
theorem so_ne1 {x : Int32} (h : x = 1) : ¬ x = 0 := by
  rw [h]
  decide
section
variable {U : Nat → Bool} {P C O : Nat → Nat} {a1 a2 a3 a4 : Nat → Int32} {jb : Int32} {post : Int32 → Prop}
theorem sw_bp {p : Nat} (h : so_V p) (hp : post 0) : wpX_badPeriod post () (nI p) := by
  obtain ⟨h1, h2, h3⟩ := h
  have e := pk_rem (a := 360) (d := p) (by omega) (by omega) (by omega)
  rw [h3, nI_0] at e
  exact pk_lt p 2 (fun z => absurd z (by omega)) (fun _ => pk_lt 360 p (fun z => absurd z (by omega)) (fun _ => ⟨nI_ne0 (by omega) (by omega), br_t e hp⟩))
theorem sw_bt {t : Nat} (h : t ≤ 1000) (hp : post 0) : wpX_badTime post () (nI t) :=
  pk_lt t 0 (fun z => absurd z (by omega)) (fun _ => pk_le t 1000000000 (fun _ => hp) (fun z => absurd z (by omega)))
theorem sw_gcd7 : ∀ (k x y i f : Nat), x < 2 ^ 31 → y < 2 ^ 31 → i + k = 20 → k < f → post (nI (so_g k x y)) → wX_gcd_7 post f (nI x) (nI y) (nI i) := by
  intro k
  induction k with
  | zero =>
    intro x y i f hx hy hi hf hp
    obtain ⟨f', rfl⟩ : ∃ f', f = f' + 1 := ⟨f - 1, by omega⟩
    exact pk_le 20 i (fun _ => hp) (fun z => absurd z (by omega))
  | succ k ih =>
    intro x y i f hx hy hi hf hp
    obtain ⟨f', rfl⟩ : ∃ f', f = f' + 1 := ⟨f - 1, by omega⟩
    have hp' : post (nI (if y = 0 then x else so_g k y (x % y))) := hp
    refine pk_le 20 i (fun z => absurd z (by omega)) (fun _ => pk_le y 0 (fun z => ?_) (fun z => ⟨nI_ne0 (by omega) hy, nm_r (pk_rem hx (by omega) hy) (nm_r (nI_1 i) (ih y (x % y) (i + 1) f' hy ?_ (by omega) (by omega) ?_))⟩))
    · rw [if_pos (by omega)] at hp'
      exact hp'
    · have := Nat.mod_lt x (show 0 < y by omega)
      omega
    · rw [if_neg (by omega)] at hp'
      exact hp'
theorem sw_gcd {p q : Nat} (hp : so_V p) (hq : so_V q) (h : post (nI (so_g 20 p q))) : wpX_gcd post () (nI p) (nI q) :=
  ⟨21, sw_gcd7 20 p q 0 21 (by have := hp.2.1; omega) (by have := hq.2.1; omega) (by omega) (by omega) h⟩
theorem sw_rb37 {i g b c : Nat} (hi : i < 10) (h3 : a3 i = nI c) (hb : b < g) (hg : g < 2 ^ 20) (hc : c < 2 ^ 20) (hp : post (nI (if c ≤ b then g - b else 0))) : wX_roomBeside_37 post (nI i) (nI g) (nI b) jb a1 a2 a3 a4 := by
  unfold wX_roomBeside_37
  rw [nI_clamp (show i < 2 ^ 31 by omega), h3]
  refine ⟨pk_in i 10 hi, pk_le c b (fun z => ?_) (fun z => ?_)⟩
  · rw [if_pos z] at hp
    rw [pk_sub (by omega)]
    exact hp
  · rw [if_neg (by omega)] at hp
    exact hp
/-- the remainder of a negative difference -/
theorem so_ndiv {d g : Nat} (hd : d < 2 ^ 20) (h0 : 0 < g) (hg : g < 2 ^ 20) : (-nI d) / nI g = -nI (d / g) := by
  have hq : d / g ≤ d := Nat.div_le_self d g
  apply Int32.toInt_inj.mp
  rw [Int32.toInt_div, sb_negT (by omega), nI_toInt (by omega), Int.neg_tdiv, Int.tdiv_eq_ediv_of_nonneg (by omega), ← Int.natCast_ediv]
  generalize d / g = w at *
  rw [sb_negT (by omega), Int.bmod_eq_of_le (by omega) (by omega)]
theorem so_nrem {d g : Nat} (hd : d < 2 ^ 20) (h0 : 0 < g) (hg : g < 2 ^ 20) : (-nI d) - (-nI d) / nI g * nI g = -nI (d % g) := by
  have h := pk_rem (a := d) (d := g) (by omega) h0 (by omega)
  rw [pk_div (by omega) h0 (by omega)] at h
  rw [so_ndiv hd h0 hg, ← h]
  grind
theorem so_nsub {a b : Nat} (h : a < b) : nI a - nI b = -nI (b - a) := by
  rw [← pk_sub (show a ≤ b by omega)]
  grind
theorem so_nneg {m : Nat} (h0 : 0 < m) (h : m < 2 ^ 20) : ¬ (0 : Int32) ≤ -nI m := by
  rw [Int32.le_iff_toInt_le, sb_negT (by omega), show (0 : Int32).toInt = 0 from by decide]
  omega
theorem sw_rb {i p o : Nat} (hi : i < 10) (hU : U i = true) (hV : so_V p) (ho : o < 2 ^ 20) (J : so_J U P C O) (K : so_K U P C O a1 a2 a3 a4) (hp : post (nI (so_rb p (P i) (C i) (O i) o))) : wpX_roomBeside post (jb, a1, a2, a3, a4) (nI i) (nI p) (nI o) := by
  obtain ⟨k1, k2, k3, k4⟩ := (K i hi).2 hU
  obtain ⟨v, c1, c2, o1⟩ := J i hi hU
  obtain ⟨g0, g1, g2, g3⟩ := so_gV hV v
  have hp2 := hV.2.1
  have hv2 := v.2.1
  unfold wpX_roomBeside
  dsimp only
  rw [nI_clamp (show i < 2 ^ 31 by omega), k2, k4]
  refine ⟨pk_in i 10 hi, sw_gcd hV v ⟨pk_in i 10 hi, nI_ne0 g0 (by omega), ?_⟩⟩
  unfold so_rb at hp
  generalize so_g 20 p (P i) = g at *
  rcases Nat.lt_or_ge o (O i) with z | z
  · refine nm_r (e' := -nI ((O i - o) % g)) (by rw [so_nsub z, so_nrem (by omega) g0 (by omega)]) ?_
    have hm : (O i - o) % g < g := Nat.mod_lt _ g0
    have hd := Nat.mod_add_div (O i - o) g
    generalize (O i - o) % g = m at *
    generalize (O i - o) / g = w at *
    have hd' : ((O i : Nat) : Int) - (o : Int) = (m : Int) + (g : Int) * (w : Int) := by
      rw [← Int.natCast_mul, ← Int.natCast_add, hd]
      omega
    by_cases e : m = 0
    · subst e
      have hb : so_bh g o (O i) = 0 := so_bh_eq (-(w : Int)) g0 (by rw [Int.mul_neg]; omega)
      rw [hb] at hp
      rw [show -nI 0 = nI 0 from by decide]
      exact pk_le 0 0 (fun _ => sw_rb37 hi k3 g0 (by omega) (by omega) hp) (fun y => absurd y (by omega))
    · have hb : so_bh g o (O i) = g - m := so_bh_eq (-(w : Int) - 1) (by omega) (by rw [Int.mul_sub, Int.mul_neg, Int.mul_one]; omega)
      rw [hb] at hp
      refine br_f (so_nneg (by omega) (by omega)) (nm_r (e' := nI (g - m)) ?_ (sw_rb37 hi k3 (by omega) (by omega) (by omega) hp))
      rw [← pk_sub (show m ≤ g by omega)]
      grind
  · have hm : (o - O i) % g < g := Nat.mod_lt _ g0
    have hd := Nat.mod_add_div (o - O i) g
    refine nm_r (e' := nI ((o - O i) % g)) (by rw [pk_sub z, pk_rem (by omega) g0 (by omega)]) ?_
    generalize (o - O i) % g = m at *
    generalize (o - O i) / g = w at *
    have hd' : (o : Int) - ((O i : Nat) : Int) = (m : Int) + (g : Int) * (w : Int) := by
      rw [← Int.natCast_mul, ← Int.natCast_add, hd]
      omega
    rw [so_bh_eq (w : Int) hm hd'] at hp
    exact pk_le 0 m (fun _ => sw_rb37 hi k3 hm (by omega) (by omega) hp) (fun y => absurd y (by omega))
theorem sw_ra {p o : Nat} (hV : so_V p) (ho : o < 2 ^ 20) (J : so_J U P C O) (K : so_K U P C O a1 a2 a3 a4) (hp : post (nI (so_ra U P C O p o 10))) : wpX_roomAt post (jb, a1, a2, a3, a4) (nI p) (nI o) := by
  have hp2 := hV.2.1
  have hle : ∀ k, so_ra U P C O p o k ≤ p := fun k => so_ra_le k
  refine pk_loop (σ := Unit) (fun n i _ => wX_roomAt_5 post (nI p) (nI o) jb a1 a2 a3 a4 n (nI (so_ra U P C O p o i)) (nI i)) (fun _ _ => True) 10 0 () (by omega) trivial (fun n _ _ => pk_le 10 10 (fun _ => hp) (fun z => absurd z (by omega))) (fun n i _ hi _ hw => ?_)
  have hw' : wX_roomAt_5 post (nI p) (nI o) jb a1 a2 a3 a4 n (nI (so_ra U P C O p o (i + 1))) (nI (i + 1)) := hw () trivial
  have hli := hle i
  refine pk_le 10 i (fun z => absurd z (by omega)) (fun _ => pk_le (so_ra U P C O p o i) 0 (fun z => ?_) (fun z => ⟨pk_in i 10 hi, ?_⟩))
  · have m := so_ra_mono (U := U) (P := P) (C := C) (O := O) (p := p) (o := o) (show i ≤ 10 by omega)
    rw [show so_ra U P C O p o 10 = so_ra U P C O p o i by omega] at hp
    exact hp
  · cases hU : U i with
    | false =>
      rw [so_ra_f hU] at hw'
      exact br_t (by rw [nI_clamp (show i < 2 ^ 31 by omega)]; exact (K i hi).1 hU) (nm_r (nI_1 i) hw')
    | true =>
      have hb := so_rb_le (c := C i) (s := O i) (o := o) hV (J i hi hU).1
      rw [so_ra_t hU] at hw'
      refine br_f (by rw [nI_clamp (show i < 2 ^ 31 by omega)]; exact so_ne1 ((K i hi).2 hU).1) (sw_rb hi hU hV ho J K (pk_le (so_ra U P C O p o i) (so_rb p (P i) (C i) (O i) o) (fun y => nm_r (nI_1 i) ?_) (fun y => nm_r (nI_1 i) ?_)))
      · rw [Nat.min_eq_left y] at hw'
        exact hw'
      · rw [Nat.min_eq_right (by omega)] at hw'
        exact hw'
theorem sw_room {p : Nat} (hV : so_V p) (J : so_J U P C O) (K : so_K U P C O a1 a2 a3 a4) (hp : post (nI (so_mx (fun o => so_ra U P C O p o 10) p))) : wpX_room post (jb, a1, a2, a3, a4) (nI p) := by
  have hp2 := hV.2.1
  have hle : ∀ k, so_ra U P C O p k 10 ≤ p := fun k => so_ra_le 10
  have hml : ∀ k, so_mx (fun o => so_ra U P C O p o 10) k ≤ p := fun k => so_mx_le hle
  unfold wpX_room
  dsimp only
  refine sw_bp hV (br_t rfl ?_)
  refine pk_loop (σ := Unit) (fun n i _ => wX_room_13 post (nI p) jb a1 a2 a3 a4 n (nI (so_mx (fun o => so_ra U P C O p o 10) i)) (nI i)) (fun _ _ => True) p 0 () (by omega) trivial (fun n _ _ => pk_le p p (fun _ => hp) (fun z => absurd z (by omega))) (fun n i _ hi _ hw => ?_)
  have hw' : wX_room_13 post (nI p) jb a1 a2 a3 a4 n (nI (max (so_mx (fun o => so_ra U P C O p o 10) i) (so_ra U P C O p i 10))) (nI (i + 1)) := hw () trivial
  have h1 := hle i
  have h2 := hml i
  refine pk_le p i (fun z => absurd z (by omega)) (fun _ => sw_ra hV (by omega) J K (pk_le (so_ra U P C O p i 10) (so_mx (fun o => so_ra U P C O p o 10) i) (fun z => nm_r (nI_1 i) ?_) (fun z => nm_r (nI_1 i) ?_)))
  · rw [Nat.max_eq_left z] at hw'
    exact hw'
  · rw [Nat.max_eq_right (by omega)] at hw'
    exact hw'
end
end
section
/-! the calls that store -/
section
variable {U : Nat → Bool} {P C O : Nat → Nat} {a1 a2 a3 a4 : Nat → Int32} {jb : Int32} {post : Int32 → St1 → Prop}
theorem sw_take {p c o : Nat} (K : so_K U P C O a1 a2 a3 a4) (hf : ∃ i, i < 10 ∧ U i = false) (hp : ∀ i, i < 10 → U i = false → post (nI i) (jb + 1, upd a1 i 1, upd a2 i (nI p), upd a3 i (nI c), upd a4 i (nI o))) : wpX_take post (jb, a1, a2, a3, a4) (nI p) (nI c) (nI o) := by
  obtain ⟨d, ⟨d1, d2⟩, d3⟩ := pk_least (fun i => i < 10 ∧ U i = false) hf
  have h26 : wX_take_26 post (nI p) (nI c) (nI o) (nI d) jb a1 a2 a3 a4 := by
    unfold wX_take_26
    rw [nI_clamp (show d < 2 ^ 31 by omega)]
    exact ⟨pk_in d 10 d1, nm_e ⟨pk_in d 10 d1, nm_e ⟨pk_in d 10 d1, nm_e ⟨pk_in d 10 d1, nm_e (nm_e (hp d d1 d2))⟩⟩⟩⟩
  refine pk_loop (σ := Unit) (fun n i _ => wX_take_3 post (nI p) (nI c) (nI o) jb a1 a2 a3 a4 n (nI i)) (fun _ _ => True) d 0 () (by omega) trivial (fun n _ _ => ?_) (fun n i _ hi _ hw => ?_)
  · exact pk_le 9 d (fun _ => h26) (fun z => ⟨pk_in d 10 d1, br_t (by rw [nI_clamp (show d < 2 ^ 31 by omega)]; exact (K d d1).1 d2) h26⟩)
  · have hu : U i = true := by
      cases e : U i with
      | true => rfl
      | false => exact absurd ⟨by omega, e⟩ (d3 i hi)
    exact pk_le 9 i (fun z => absurd z (by omega)) (fun z => ⟨pk_in i 10 (by omega), br_f (by rw [nI_clamp (show i < 2 ^ 31 by omega)]; exact so_ne1 ((K i (by omega)).2 hu).1) (nm_r (nI_1 i) (hw () trivial))⟩)
theorem sw_admit {p c : Nat} (hV : so_V p) (hc : c < 2 ^ 20) (J : so_J U P C O) (K : so_K U P C O a1 a2 a3 a4)
    (h2 : (c < 1 ∨ p < c) → post (-2) (nI (so_cnt U 10), a1, a2, a3, a4))
    (h4 : 1 ≤ c → c ≤ p → so_cnt U 10 = 10 → post (-4) (nI (so_cnt U 10), a1, a2, a3, a4))
    (h5 : 1 ≤ c → c ≤ p → so_cnt U 10 < 10 → (∀ o, o < p → so_ra U P C O p o 10 < c) → post (-5) (nI (so_cnt U 10), a1, a2, a3, a4))
    (h : ∀ i o, i < 10 → U i = false → o < p → 1 ≤ c → c ≤ p → so_cnt U 10 < 10 → c ≤ so_ra U P C O p o 10 → post (nI i) (nI (so_cnt U 10) + 1, upd a1 i 1, upd a2 i (nI p), upd a3 i (nI c), upd a4 i (nI o))) :
    wpX_admit post (nI (so_cnt U 10), a1, a2, a3, a4) (nI p) (nI c) := by
  have hp2 := hV.2.1
  have hj := so_cnt_le U 10
  have hle : ∀ k, so_ra U P C O p k 10 ≤ p := fun k => so_ra_le 10
  unfold wpX_admit
  dsimp only
  refine sw_bp hV (br_t rfl (pk_lt c 1 (fun z => h2 (Or.inl z)) (fun z1 => pk_le c p (fun z2 => pk_lt (so_cnt U 10) 10 (fun z3 => ?_) (fun z3 => h4 z1 z2 (by omega))) (fun z2 => h2 (Or.inr z2)))))
  refine pk_loop (σ := Unit) (fun n i _ => wX_admit_36 post (nI p) (nI c) (nI (so_cnt U 10)) a1 a2 a3 a4 n (nI i)) (fun i _ => ∀ o, o < i → so_ra U P C O p o 10 < c) p 0 () (by omega) (fun o ho => absurd ho (by omega)) (fun n _ hI => pk_le p p (fun _ => h5 z1 z2 z3 hI) (fun z => absurd z (by omega))) (fun n i _ hi hI hw => ?_)
  have h1 := hle i
  refine pk_le p i (fun z => absurd z (by omega)) (fun _ => sw_ra hV (by omega) J K (pk_lt (so_ra U P C O p i 10) c (fun z => nm_r (nI_1 i) (hw () (lt_s hI z))) (fun z => ?_)))
  exact sw_take K (so_cnt_free z3) (fun k hk hu => h k i hk hu hi z1 z2 z3 z)
theorem sw_admitAt {p c o : Nat} (hV : so_V p) (hc : c < 2 ^ 20) (ho : o < 2 ^ 20) (J : so_J U P C O) (K : so_K U P C O a1 a2 a3 a4)
    (hn : ∀ r : Int32, r < 0 → post r (nI (so_cnt U 10), a1, a2, a3, a4))
    (h : ∀ i, i < 10 → U i = false → o < p → 1 ≤ c → c ≤ p → so_cnt U 10 < 10 → c ≤ so_ra U P C O p o 10 → post (nI i) (nI (so_cnt U 10) + 1, upd a1 i 1, upd a2 i (nI p), upd a3 i (nI c), upd a4 i (nI o))) :
    wpX_admitAt post (nI (so_cnt U 10), a1, a2, a3, a4) (nI p) (nI c) (nI o) := by
  have hp2 := hV.2.1
  have hj := so_cnt_le U 10
  have hle : so_ra U P C O p o 10 ≤ p := so_ra_le 10
  unfold wpX_admitAt
  dsimp only
  refine sw_bp hV (br_t rfl (pk_lt c 1 (fun z => hn _ (by decide)) (fun z1 => pk_le c p (fun z2 => pk_lt o 0 (fun z => absurd z (by omega)) (fun _ => pk_lt o p (fun z3 => pk_lt (so_cnt U 10) 10 (fun z4 => ?_) (fun _ => hn _ (by decide))) (fun _ => hn _ (by decide)))) (fun _ => hn _ (by decide)))))
  exact sw_ra hV ho J K (pk_le c (so_ra U P C O p o 10) (fun z => sw_take K (so_cnt_free z4) (fun k hk hu => h k hk hu z3 z1 z2 z4 z)) (fun _ => hn _ (by decide)))
theorem sw_noJob {q : Int32 → Prop} {i : Nat} (hi : i < 2 ^ 20) (K : so_K U P C O a1 a2 a3 a4) (h0 : i < 10 → U i = true → q 0) (h1 : (i < 10 → U i = false) → q 1) : wpX_noJob q (jb, a1, a2, a3, a4) (nI i) := by
  refine pk_lt i 0 (fun z => absurd z (by omega)) (fun _ => pk_le 10 i (fun z => h1 (fun y => absurd y (by omega))) (fun z => ⟨pk_in i 10 z, ?_⟩))
  cases hU : U i with
  | false => exact br_t (by rw [nI_clamp (show i < 2 ^ 31 by omega)]; exact (K i z).1 hU) (h1 (fun _ => hU))
  | true => exact br_f (by rw [nI_clamp (show i < 2 ^ 31 by omega)]; exact so_ne1 ((K i z).2 hU).1) (h0 z hU)
theorem sw_remove {i : Nat} (hi : i < 2 ^ 20) (K : so_K U P C O a1 a2 a3 a4)
    (hn : (i < 10 → U i = false) → post (-6) (jb, a1, a2, a3, a4))
    (h : i < 10 → U i = true → post (jb - 1) (jb - 1, upd a1 i 0, a2, a3, a4)) :
    wpX_remove post (jb, a1, a2, a3, a4) (nI i) := by
  unfold wpX_remove
  dsimp only
  refine sw_noJob hi K (fun z hu => br_t rfl ?_) (fun z => br_f (by decide) (hn z))
  refine ⟨pk_in i 10 z, ?_⟩
  rw [nI_clamp (show i < 2 ^ 31 by omega)]
  exact nm_e (nm_e (h z hu))
theorem sw_offset {q : Int32 → Prop} {i : Nat} (hi : i < 10) (K : so_K U P C O a1 a2 a3 a4) (hn : U i = false → q (-6)) (h : U i = true → q (nI (O i))) : wpX_offset q (jb, a1, a2, a3, a4) (nI i) := by
  unfold wpX_offset
  dsimp only
  refine sw_noJob (by omega) K (fun z hu => br_t rfl ⟨pk_in i 10 z, ?_⟩) (fun z => br_f (by decide) (hn (z hi)))
  rw [nI_clamp (show i < 2 ^ 31 by omega), ((K i hi).2 hu).2.2.2]
  exact h hu
end
end
section
/-! twelve bits of a long: kept, with -/
/-- field m of x -/
def so_fd (x : Int64) (m : Nat) : Nat := x.toBitVec.toNat / 2 ^ (12 * m) % 2 ^ 12
theorem so_fd_lt (x : Int64) (m : Nat) : so_fd x m < 4096 := Nat.mod_lt _ (by decide)
theorem so_fd_bit (x : Int64) (m i : Nat) : (so_fd x m).testBit i = (decide (i < 12) && x.toBitVec.getLsbD (12 * m + i)) := by
  unfold so_fd
  rw [Nat.testBit_mod_two_pow, Nat.testBit_div_two_pow, BitVec.getLsbD, Nat.add_comm]
theorem so_c : ∀ m, m < 5 → (12 * nI m).toInt64 &&& 63 = lN (12 * m) := by decide +kernel
theorem so_sm : ∀ m, m < 5 → ((lN (12 * m)).toBitVec.smod 64).toNat = 12 * m := by decide +kernel
theorem so_4095 (k : Nat) : (4095 : Int64).toBitVec.getLsbD k = decide (k < 12) := by
  show (BitVec.ofNat 64 (2 ^ 12 - 1)).getLsbD k = _
  rw [BitVec.getLsbD_ofNat, Nat.testBit_two_pow_sub_one]
  by_cases h : k < 12
  · rw [decide_eq_true h, decide_eq_true (show k < 64 by omega)]
    rfl
  · rw [decide_eq_false h, Bool.and_false]
theorem so_kept {x : Int64} {m : Nat} (hm : m < 5) : ((x >>> ((12 * nI m).toInt64 &&& 63)) &&& 4095).toInt32 = nI (so_fd x m) := by
  rw [so_c m hm]
  have e : (x >>> lN (12 * m)) &&& 4095 = lN (so_fd x m) := by
    apply Int64.toBitVec_inj.mp
    apply BitVec.eq_of_getLsbD_eq
    intro i hi
    rw [Int64.toBitVec_and, BitVec.getLsbD_and, so_4095, Int64.toBitVec_shiftRight]
    show ((x.toBitVec.sshiftRight ((lN (12 * m)).toBitVec.smod 64).toNat).getLsbD i && decide (i < 12)) = (BitVec.ofNat 64 (so_fd x m)).getLsbD i
    rw [so_sm m hm, BitVec.getLsbD_ofNat, so_fd_bit, BitVec.getLsbD_sshiftRight, decide_eq_true hi, Bool.true_and]
    by_cases h : i < 12
    · rw [decide_eq_true h, if_pos (show 12 * m + i < 64 by omega), decide_eq_false (show ¬ 64 ≤ i by omega)]
      simp
    · rw [decide_eq_false h, Bool.and_false, Bool.false_and]
  rw [e]
  exact lN_i _
/-- x with v in field m -/
def so_wt (x : Int64) (m v : Nat) : Int64 := (x &&& (((4095 : Int64) <<< ((12 * nI m).toInt64 &&& 63)) ^^^ (-1))) ||| ((nI v).toInt64 <<< ((12 * nI m).toInt64 &&& 63))
theorem so_shl {x : Int64} {m k : Nat} (hm : m < 5) (hk : k < 64) : (x <<< lN (12 * m)).toBitVec.getLsbD k = (decide (12 * m ≤ k) && x.toBitVec.getLsbD (k - 12 * m)) := by
  rw [Int64.toBitVec_shiftLeft]
  show (x.toBitVec <<< ((lN (12 * m)).toBitVec.smod 64).toNat).getLsbD k = _
  rw [so_sm m hm, BitVec.getLsbD_shiftLeft]
  rcases Nat.lt_or_ge k (12 * m) with h | h
  · simp [h, Nat.not_le.mpr h]
  · simp [hk, h, Nat.not_lt.mpr h]
theorem so_wt_bit {x : Int64} {m v k : Nat} (hm : m < 5) (hv : v < 4096) (hk : k < 64) : (so_wt x m v).toBitVec.getLsbD k = ((x.toBitVec.getLsbD k && !(decide (12 * m ≤ k) && decide (k - 12 * m < 12))) || (decide (12 * m ≤ k) && v.testBit (k - 12 * m))) := by
  have ha : (-1 : Int64).toBitVec = BitVec.allOnes 64 := by decide
  unfold so_wt
  rw [so_c m hm, nI_l (show v < 2 ^ 31 by omega), Int64.toBitVec_or, BitVec.getLsbD_or, Int64.toBitVec_and, BitVec.getLsbD_and, Int64.toBitVec_xor, BitVec.getLsbD_xor, ha, BitVec.getLsbD_allOnes, so_shl hm hk, so_shl hm hk, so_4095, decide_eq_true hk, Bool.xor_true]
  have e : (lN v).toBitVec.getLsbD (k - 12 * m) = v.testBit (k - 12 * m) := by
    show (BitVec.ofNat 64 v).getLsbD _ = _
    rw [BitVec.getLsbD_ofNat, decide_eq_true (show k - 12 * m < 64 by omega), Bool.true_and]
  rw [e]
theorem so_tb {v i : Nat} (hv : v < 4096) (hi : 12 ≤ i) : v.testBit i = false :=
  Nat.testBit_lt_two_pow (Nat.lt_of_lt_of_le hv (Nat.pow_le_pow_right (n := 2) (by decide) hi))
theorem so_wt_s {x : Int64} {m v : Nat} (hm : m < 5) (hv : v < 4096) : so_fd (so_wt x m v) m = v := by
  apply Nat.eq_of_testBit_eq
  intro i
  rw [so_fd_bit]
  by_cases h : i < 12
  · rw [so_wt_bit hm hv (by omega), decide_eq_true h, decide_eq_true (show 12 * m ≤ 12 * m + i by omega), show 12 * m + i - 12 * m = i by omega, decide_eq_true h]
    simp
  · rw [decide_eq_false h, so_tb hv (by omega)]
    rfl
theorem so_wt_n {x : Int64} {m l v : Nat} (hm : m < 5) (hl : l < 5) (hv : v < 4096) (hn : l ≠ m) : so_fd (so_wt x m v) l = so_fd x l := by
  apply Nat.eq_of_testBit_eq
  intro i
  rw [so_fd_bit, so_fd_bit]
  by_cases h : i < 12
  · rw [so_wt_bit hm hv (by omega), decide_eq_true h]
    rcases Nat.lt_or_ge l m with z | z
    · rw [decide_eq_false (show ¬ 12 * m ≤ 12 * l + i by omega)]
      simp
    · rw [decide_eq_true (show 12 * m ≤ 12 * l + i by omega), decide_eq_false (show ¬ 12 * l + i - 12 * m < 12 by omega), so_tb hv (show 12 ≤ 12 * l + i - 12 * m by omega)]
      simp
  · rw [decide_eq_false h]
    rfl
/-- what is kept of job i -/
def so_kp (a b : Int64) (i : Nat) : Nat := if i < 5 then so_fd a i else so_fd b (i - 5)
def so_wA (x : Int64) (k v : Nat) : Int64 := if k < 5 then so_wt x k v else x
def so_wB (x : Int64) (k v : Nat) : Int64 := if k < 5 then x else so_wt x (k - 5) v
theorem so_kp_s {a b : Int64} {k v : Nat} (hk : k < 10) (hv : v < 4096) : so_kp (so_wA a k v) (so_wB b k v) k = v := by
  unfold so_kp so_wA so_wB
  by_cases h : k < 5
  · rw [if_pos h, if_pos h, so_wt_s h hv]
  · rw [if_neg h, if_neg h, so_wt_s (by omega) hv]
theorem so_kp_n {a b : Int64} {k i v : Nat} (hk : k < 10) (hi : i < 10) (hn : i ≠ k) (hv : v < 4096) : so_kp (so_wA a k v) (so_wB b k v) i = so_kp a b i := by
  unfold so_kp so_wA so_wB
  by_cases h : i < 5
  · rw [if_pos h, if_pos h]
    by_cases h2 : k < 5
    · rw [if_pos h2, so_wt_n h2 h hv hn]
    · rw [if_neg h2]
  · rw [if_neg h, if_neg h]
    by_cases h2 : k < 5
    · rw [if_pos h2]
    · rw [if_neg h2, so_wt_n (by omega) (by omega) hv (by omega)]
theorem sw_kept {q : Int32 → Prop} {a b : Int64} {i : Nat} (hi : i < 10) (h : q (nI (so_kp a b i))) : wpL_kept q () a b (nI i) := by
  unfold so_kp at h
  refine pk_le 5 i (fun z => ?_) (fun z => ?_)
  · rw [if_neg (by omega)] at h
    rw [show nI i - 5 = nI (i - 5) from pk_sub (b := 5) z, so_kept (by omega)]
    exact h
  · rw [if_pos z] at h
    rw [so_kept z]
    exact h
theorem sw_withA {q : Int64 → Prop} {x : Int64} {k v : Nat} (hk : k < 10) (h : q (so_wA x k v)) : wpL_with q () x (nI k) 0 (nI v) := by
  unfold so_wA at h
  refine nm_r (show nI k - 0 = nI k from pk_sub (b := 0) (Nat.zero_le k)) (pk_lt k 0 (fun z => absurd z (by omega)) (fun _ => pk_le k 4 (fun z => ?_) (fun z => ?_)))
  · rw [if_pos (by omega)] at h
    exact h
  · rw [if_neg (by omega)] at h
    exact h
theorem sw_withB {q : Int64 → Prop} {x : Int64} {k v : Nat} (hk : k < 10) (h : q (so_wB x k v)) : wpL_with q () x (nI k) 5 (nI v) := by
  unfold so_wB at h
  by_cases e : k < 5
  · rw [if_pos e] at h
    exact nm_e (br_t (pk_sneg (b := 5) (by omega) e) h)
  · rw [if_neg e] at h
    exact nm_r (show nI k - 5 = nI (k - 5) from pk_sub (b := 5) (by omega)) (pk_lt (k - 5) 0 (fun z => absurd z (by omega)) (fun _ => pk_le (k - 5) 4 (fun z => h) (fun z => absurd z (by omega))))
end
section
/-! questions about time, and the law's walk over the slots -/
/-- job k runs in slot t -/
def so_at (U : Nat → Bool) (P C O : Nat → Nat) (t k : Nat) : Bool := U k && so_run (P k) (C k) (O k) t
/-- one of the jobs below k runs in slot t -/
def so_any (U : Nat → Bool) (P C O : Nat → Nat) (t : Nat) : Nat → Bool
  | 0 => false
  | k + 1 => so_any U P C O t k || so_at U P C O t k
/-- the last job below k that runs in slot t -/
def so_due (U : Nat → Bool) (P C O : Nat → Nat) (t : Nat) : Nat → Int32
  | 0 => -6
  | k + 1 => if so_at U P C O t k = true then nI k else so_due U P C O t k
theorem so_bx (d a r : Bool) (h : r = true → a = false) : (d && !a) = ((d && !(a || r)) || (d && r)) := by
  cases d <;> cases a <;> cases r <;> first | rfl | exact absurd (h rfl) (by decide)
theorem so_by (d a r : Bool) (h : (d && !(a || r)) = true) : (d && r) = false := by
  cases d <;> cases a <;> cases r <;> first | rfl | exact absurd h (by decide)
section
variable {U : Nat → Bool} {P C O : Nat → Nat} {a1 a2 a3 a4 : Nat → Int32} {jb : Int32} {post : Int32 → Prop}
theorem so_at_f {t k : Nat} (h : U k = false) : so_at U P C O t k = false := by
  unfold so_at
  rw [h, Bool.false_and]
theorem so_at_t {t k : Nat} (h : U k = true) : so_at U P C O t k = so_run (P k) (C k) (O k) t := by
  unfold so_at
  rw [h, Bool.true_and]
theorem so_at_one {t i j : Nat} (D : so_D U P C O) (hi : i < 10) (hj : j < 10) (hn : i ≠ j) (h : so_at U P C O t i = true) : so_at U P C O t j = false := by
  unfold so_at at h ⊢
  rw [Bool.and_eq_true] at h
  cases hu : U j with
  | false => rfl
  | true =>
    rw [Bool.true_and]
    exact D i j t hi hj hn h.1 hu h.2
theorem so_any_t {t n k : Nat} (hk : k < n) (h : so_at U P C O t k = true) : so_any U P C O t n = true := by
  induction n with
  | zero => exact absurd hk (by omega)
  | succ n ih =>
    show (so_any U P C O t n || so_at U P C O t n) = true
    by_cases e : k = n
    · subst e
      rw [h, Bool.or_true]
    · rw [ih (by omega), Bool.true_or]
theorem so_any_f {t n : Nat} (h : ∀ k, k < n → so_at U P C O t k = false) : so_any U P C O t n = false := by
  induction n with
  | zero => rfl
  | succ n ih =>
    show (so_any U P C O t n || so_at U P C O t n) = false
    rw [ih (fun k hk => h k (by omega)), h n (by omega)]
    rfl
theorem so_due_0 {t n : Nat} (h : ∀ k, k < n → so_at U P C O t k = false) : so_due U P C O t n = -6 := by
  induction n with
  | zero => rfl
  | succ n ih =>
    show (if so_at U P C O t n = true then nI n else so_due U P C O t n) = -6
    rw [h n (by omega), if_neg (by decide)]
    exact ih (fun k hk => h k (by omega))
theorem so_due_1 {t n k : Nat} (hk : k < n) (h : so_at U P C O t k = true) (ho : ∀ j, j < n → j ≠ k → so_at U P C O t j = false) : so_due U P C O t n = nI k := by
  induction n with
  | zero => exact absurd hk (by omega)
  | succ n ih =>
    show (if so_at U P C O t n = true then nI n else so_due U P C O t n) = nI k
    by_cases e : k = n
    · subst e
      rw [if_pos h]
    · rw [ho n (by omega) (fun z => e z.symm), if_neg (by decide)]
      exact ih (by omega) (fun j hj hn => ho j (by omega) hn)
theorem so_due_f {t k : Nat} (h : so_at U P C O t k = false) : so_due U P C O t (k + 1) = so_due U P C O t k := by
  show (if so_at U P C O t k = true then nI k else so_due U P C O t k) = _
  rw [h, if_neg (by decide)]
theorem so_due_t {t k : Nat} (h : so_at U P C O t k = true) : so_due U P C O t (k + 1) = nI k := if_pos h
/-- either no job runs in slot t, or one alone -/
theorem so_due_or (D : so_D U P C O) (t : Nat) : (so_any U P C O t 10 = false ∧ so_due U P C O t 10 = -6) ∨ (so_any U P C O t 10 = true ∧ ∃ k, k < 10 ∧ so_due U P C O t 10 = nI k) := by
  by_cases h : ∃ k, k < 10 ∧ so_at U P C O t k = true
  · obtain ⟨k, hk, e⟩ := h
    exact Or.inr ⟨so_any_t hk e, k, hk, so_due_1 hk e (fun j hj hn => so_at_one D hk hj (fun z => hn z.symm) e)⟩
  · have h' : ∀ k, k < 10 → so_at U P C O t k = false := by
      intro k hk
      cases e : so_at U P C O t k with
      | false => rfl
      | true => exact absurd ⟨k, hk, e⟩ h
    exact Or.inl ⟨so_any_f h', so_due_0 h'⟩
theorem sw_running {t : Nat} (ht : t ≤ 1000) (J : so_J U P C O) (K : so_K U P C O a1 a2 a3 a4) (D : so_D U P C O) (hp : post (so_due U P C O t 10)) : wpX_running post (jb, a1, a2, a3, a4) (nI t) := by
  unfold wpX_running
  dsimp only
  refine sw_bt ht (br_t rfl ?_)
  refine pk_loop (σ := Unit) (fun n i _ => wX_running_12 post (nI t) jb a1 a2 a3 a4 n (nI i)) (fun i _ => ∀ k, k < i → so_at U P C O t k = false) 10 0 () (by omega) (fun k hk => absurd hk (by omega)) (fun n _ hI => pk_le 10 10 (fun _ => by rw [so_due_0 hI] at hp; exact hp) (fun z => absurd z (by omega))) (fun n i _ hi hI hw => ?_)
  refine pk_le 10 i (fun z => absurd z (by omega)) (fun _ => ⟨pk_in i 10 hi, ?_⟩)
  cases hU : U i with
  | false => exact br_t (by rw [nI_clamp (show i < 2 ^ 31 by omega)]; exact (K i hi).1 hU) (nm_r (nI_1 i) (hw () (lt_s hI (so_at_f hU))))
  | true =>
    obtain ⟨k1, k2, k3, k4⟩ := (K i hi).2 hU
    obtain ⟨⟨v1, v2, v3⟩, c1, c2, o1⟩ := J i hi hU
    rw [nI_clamp (show i < 2 ^ 31 by omega), k2, k3, k4]
    refine br_f (so_ne1 k1) ⟨pk_in i 10 hi, pk_lt t (O i) (fun z => nm_r (nI_1 i) (hw () (lt_s hI ?_))) (fun z => ⟨pk_in i 10 hi, pk_in i 10 hi, nI_ne0 (by omega) (by omega), pk_in i 10 hi, ?_⟩)⟩
    · rw [so_at_t hU, so_run_lo z]
    · have hm : (t - O i) % P i < P i := Nat.mod_lt _ (by omega)
      rw [pk_sub z, pk_rem (by omega) (by omega) (by omega)]
      refine pk_le (C i) ((t - O i) % P i) (fun y => nm_r (nI_1 i) (hw () (lt_s hI ?_))) (fun y => ?_)
      · rw [so_at_t hU, so_run_hi z, decide_eq_false (by omega)]
      · have e : so_at U P C O t i = true := by rw [so_at_t hU, so_run_hi z, decide_eq_true y]
        rw [so_due_1 hi e (fun j hj hn => so_at_one D hi hj (fun x => hn x.symm) e)] at hp
        exact hp
theorem sw_ran44 {i n m : Nat} (hi : i < 10) (h2 : a2 i = nI (P i)) (h3 : a3 i = nI (C i)) (hP : 0 < P i) (hP2 : P i < 2 ^ 20) (hn : n < 2 ^ 20) (hp : post (nI (n / P i * C i + m))) : wX_ranBefore_44 post (nI i) (nI n) (nI m) jb a1 a2 a3 a4 := by
  unfold wX_ranBefore_44
  rw [nI_clamp (show i < 2 ^ 31 by omega), h2, h3, pk_div (by omega) hP (by omega), pk_mul, nI_add]
  exact ⟨pk_in i 10 hi, nI_ne0 hP (by omega), pk_in i 10 hi, hp⟩
theorem sw_ran {i t : Nat} (hi : i < 10) (hU : U i = true) (ht : t ≤ 1001) (J : so_J U P C O) (K : so_K U P C O a1 a2 a3 a4) (hp : post (nI (so_cnt (so_run (P i) (C i) (O i)) t))) : wpX_ranBefore post (jb, a1, a2, a3, a4) (nI i) (nI t) := by
  obtain ⟨k1, k2, k3, k4⟩ := (K i hi).2 hU
  obtain ⟨⟨v1, v2, v3⟩, c1, c2, o1⟩ := J i hi hU
  rw [so_cnt_run (by omega) c2] at hp
  unfold wpX_ranBefore
  dsimp only
  rw [nI_clamp (show i < 2 ^ 31 by omega), k2, k3, k4]
  refine ⟨pk_in i 10 hi, ?_⟩
  rcases Nat.lt_or_ge (O i) t with z | z
  · have hm : (t - O i) % P i < P i := Nat.mod_lt _ (by omega)
    unfold so_rf at hp
    refine nm_r (pk_sub (by omega)) (pk_lt 0 (t - O i) (fun _ => ⟨pk_in i 10 hi, nI_ne0 (by omega) (by omega), nm_r (pk_rem (by omega) (by omega) (by omega)) ⟨pk_in i 10 hi, pk_le ((t - O i) % P i) (C i) (fun y => ?_) (fun y => ⟨pk_in i 10 hi, nm_e ?_⟩)⟩⟩) (fun y => absurd y (by omega)))
    · rw [Nat.min_eq_left y] at hp
      exact sw_ran44 hi k2 k3 (by omega) (by omega) (by omega) hp
    · rw [Nat.min_eq_right (by omega)] at hp
      exact sw_ran44 hi k2 k3 (by omega) (by omega) (by omega) hp
  · rw [show t - O i = 0 by omega, so_rf_0] at hp
    refine nm_e (br_f ?_ hp)
    rw [Int32.lt_iff_toInt_lt, pk_sub_toInt (by omega) (by omega), show (0 : Int32).toInt = 0 from by decide]
    omega
theorem so_cnt_all (n : Nat) : so_cnt (fun _ => true) n = n := by
  induction n with
  | zero => rfl
  | succ n ih =>
    rw [so_cnt_s, ih]
    rfl
/-- the slots of f .. t where no job below i runs -/
def so_fr (U : Nat → Bool) (P C O : Nat → Nat) (f t i : Nat) : Nat := so_cnt (fun s => decide (f ≤ s) && !so_any U P C O s i) (t + 1)
theorem so_fr_0 {f t : Nat} (h : f ≤ t) : so_fr U P C O f t 0 = t - f + 1 := by
  have e := so_cnt_from (f := fun _ => true) (show f ≤ t + 1 by omega)
  rw [so_cnt_all, so_cnt_all] at e
  have e2 : so_fr U P C O f t 0 = so_cnt (fun s => decide (f ≤ s) && true) (t + 1) := rfl
  rw [e2]
  omega
theorem so_fr_f {f t i : Nat} (h : U i = false) : so_fr U P C O f t (i + 1) = so_fr U P C O f t i :=
  so_cnt_congr (fun s _ => by
    show (decide (f ≤ s) && !(so_any U P C O s i || so_at U P C O s i)) = (decide (f ≤ s) && !so_any U P C O s i)
    rw [so_at_f h, Bool.or_false])
theorem so_fr_t {f t i : Nat} (D : so_D U P C O) (hi : i < 10) (h : U i = true) : so_fr U P C O f t i = so_fr U P C O f t (i + 1) + so_cnt (fun s => decide (f ≤ s) && so_run (P i) (C i) (O i) s) (t + 1) := by
  refine so_cnt_add (fun s _ => ?_) (fun s _ hs => ?_)
  · show (decide (f ≤ s) && !so_any U P C O s i) = ((decide (f ≤ s) && !(so_any U P C O s i || so_at U P C O s i)) || (decide (f ≤ s) && so_run (P i) (C i) (O i) s))
    rw [← so_at_t h]
    exact so_bx _ _ _ (fun e => so_any_f (fun k hk => so_at_one D hi (by omega) (by omega) e))
  · have hs' : (decide (f ≤ s) && !(so_any U P C O s i || so_at U P C O s i)) = true := hs
    show (decide (f ≤ s) && so_run (P i) (C i) (O i) s) = false
    rw [← so_at_t h]
    exact so_by _ _ _ hs'
theorem so_fr_le {f t i : Nat} : so_fr U P C O f t i ≤ t + 1 := so_cnt_le _ _
theorem sw_free {f t : Nat} (hf : f ≤ 1000) (ht : t ≤ 1000) (J : so_J U P C O) (K : so_K U P C O a1 a2 a3 a4) (D : so_D U P C O) (hp : post (nI (so_fr U P C O f t 10))) : wpX_free post (jb, a1, a2, a3, a4) (nI f) (nI t) := by
  unfold wpX_free
  dsimp only
  refine sw_bt hf (br_t rfl (sw_bt ht (br_t rfl (pk_le f t (fun z => nm_r (e' := nI (so_fr U P C O f t 0)) ?_ ?_) (fun z => ?_)))))
  · rw [so_fr_0 z, pk_sub z, nI_1]
  · refine pk_loop (σ := Unit) (fun n i _ => wX_free_33 post (nI f) (nI t) jb a1 a2 a3 a4 n (nI (so_fr U P C O f t i)) (nI i)) (fun _ _ => True) 10 0 () (by omega) trivial (fun n _ _ => pk_le 10 10 (fun _ => hp) (fun z => absurd z (by omega))) (fun n i _ hi _ hw => ?_)
    have hw' : wX_free_33 post (nI f) (nI t) jb a1 a2 a3 a4 n (nI (so_fr U P C O f t (i + 1))) (nI (i + 1)) := hw () trivial
    refine pk_le 10 i (fun z => absurd z (by omega)) (fun _ => ⟨pk_in i 10 hi, ?_⟩)
    cases hU : U i with
    | false =>
      rw [so_fr_f hU] at hw'
      exact br_t (by rw [nI_clamp (show i < 2 ^ 31 by omega)]; exact (K i hi).1 hU) (nm_r (nI_1 i) hw')
    | true =>
      refine br_f (by rw [nI_clamp (show i < 2 ^ 31 by omega)]; exact so_ne1 ((K i hi).2 hU).1) ?_
      rw [nI_1 t]
      refine sw_ran hi hU (by omega) J K (sw_ran hi hU (by omega) J K (nm_r ?_ (nm_r (nI_1 i) hw')))
      have e1 := so_cnt_from (f := so_run (P i) (C i) (O i)) (show f ≤ t + 1 by omega)
      have e2 := so_fr_t (f := f) (t := t) D hi hU
      rw [pk_sub (by omega), pk_sub (by omega)]
      exact congrArg nI (by omega)
  · have e : so_fr U P C O f t 10 = 0 := so_cnt_0 (fun s hs => by
      show (decide (f ≤ s) && !so_any U P C O s 10) = false
      rw [decide_eq_false (by omega), Bool.false_and])
    rw [e] at hp
    exact hp
/-- what the law counts in slot s -/
def so_G (U : Nat → Bool) (P C O : Nat → Nat) (f t s : Nat) : Bool := decide (s < t + 1) && (decide (f ≤ s) && !so_any U P C O s 10)
theorem so_G_all {f t : Nat} (ht : t ≤ 719) : so_cnt (so_G U P C O f t) 720 = so_fr U P C O f t 10 := so_cnt_to (show t + 1 ≤ 720 by omega)
theorem so_G_t {f t s : Nat} (h : so_G U P C O f t s = true) : so_cnt (so_G U P C O f t) (s + 1) = so_cnt (so_G U P C O f t) s + 1 := by
  rw [so_cnt_s, if_pos h]
theorem so_G_f {f t s : Nat} (h : so_G U P C O f t s = false) : so_cnt (so_G U P C O f t) (s + 1) = so_cnt (so_G U P C O f t) s := by
  rw [so_cnt_s, h]
  rfl
theorem so_m6 {k : Nat} (hk : k < 10) : ¬ nI k = -6 := fun h => nI_pos (n := k) (by omega) (by rw [h]; decide)
theorem sw_slots21 {J6 : Int32 → Int32 → Prop} {pa pb la lb : Int64} {f t s : Nat} (hf : f ≤ 719) (ht : t ≤ 719) (hs : s < 720) (J : so_J U P C O) (K : so_K U P C O a1 a2 a3 a4) (D : so_D U P C O)
    (hk : ∀ i, i < 10 → so_kp pa pb i = if U i = true then P i else 0) (hl : ∀ i, i < 10 → U i = true → so_kp la lb i = C i)
    (hJ : J6 (nI (so_cnt (so_G U P C O f t) (s + 1))) (nI (s + 1))) :
    ∃ n, wL_slots_21 post J6 pa pb la lb (nI f) (nI t) (nI (so_cnt (so_G U P C O f t) s)) (nI s) jb a1 a2 a3 a4 n (-6) 0 := by
  refine pk_loop (σ := Unit) (fun n i _ => wL_slots_21 post J6 pa pb la lb (nI f) (nI t) (nI (so_cnt (so_G U P C O f t) s)) (nI s) jb a1 a2 a3 a4 n (so_due U P C O s i) (nI i)) (fun _ _ => True) 10 0 () (by omega) trivial (fun n _ _ => pk_le 10 10 (fun _ => sw_running (by omega) J K D (br_t rfl ?_)) (fun z => absurd z (by omega))) (fun n i _ hi _ hw => ?_)
  · rcases so_due_or D s with ⟨h1, h2⟩ | ⟨h1, k, hk, h2⟩
    · refine br_t h2 (pk_lt s f (fun z => nm_r (nI_1 s) ?_) (fun z => pk_lt t s (fun y => nm_r (nI_1 s) ?_) (fun y => nm_r (nI_1 _) (nm_r (nI_1 s) ?_))))
      · rw [so_G_f (by unfold so_G; rw [decide_eq_false (show ¬ f ≤ s by omega), Bool.false_and, Bool.and_false])] at hJ
        exact hJ
      · rw [so_G_f (by unfold so_G; rw [decide_eq_false (show ¬ s < t + 1 by omega), Bool.false_and])] at hJ
        exact hJ
      · rw [so_G_t (by unfold so_G; rw [decide_eq_true z, decide_eq_true (show s < t + 1 by omega), h1]; rfl)] at hJ
        exact hJ
    · refine br_f (by rw [h2]; exact so_m6 hk) (nm_r (nI_1 s) ?_)
      rw [so_G_f (by unfold so_G; rw [h1, Bool.not_true, Bool.and_false, Bool.and_false])] at hJ
      exact hJ
  · have hw' : wL_slots_21 post J6 pa pb la lb (nI f) (nI t) (nI (so_cnt (so_G U P C O f t) s)) (nI s) jb a1 a2 a3 a4 n (so_due U P C O s (i + 1)) (nI (i + 1)) := hw () trivial
    refine pk_le 10 i (fun z => absurd z (by omega)) (fun _ => sw_kept hi (sw_offset hi K (fun hU => ?_) (fun hU => ?_)))
    · rw [so_due_f (so_at_f hU)] at hw'
      rw [hk i hi, if_neg (by rw [hU]; decide)]
      exact pk_le 0 0 (fun _ => nm_r (nI_1 i) hw') (fun z => absurd z (by omega))
    · obtain ⟨⟨v1, v2, v3⟩, c1, c2, o1⟩ := J i hi hU
      rw [hk i hi, if_pos hU]
      refine pk_le (P i) 0 (fun z => absurd z (by omega)) (fun _ => pk_lt (O i) 0 (fun z => absurd z (by omega)) (fun _ => pk_lt s (O i) (fun z => nm_r (nI_1 i) ?_) (fun z => sw_kept hi ⟨nI_ne0 (by omega) (by omega), ?_⟩)))
      · rw [so_due_f (by rw [so_at_t hU, so_run_lo z])] at hw'
        exact hw'
      · have hm : (s - O i) % P i < P i := Nat.mod_lt _ (by omega)
        rw [hl i hi hU, pk_sub z, pk_rem (by omega) (by omega) (by omega)]
        refine pk_le (C i) ((s - O i) % P i) (fun y => nm_r (nI_1 i) ?_) (fun y => nm_r (nI_1 i) ?_)
        · rw [so_due_f (by rw [so_at_t hU, so_run_hi z, decide_eq_false (by omega)])] at hw'
          exact hw'
        · rw [so_due_t (by rw [so_at_t hU, so_run_hi z, decide_eq_true y])] at hw'
          exact hw'
theorem sw_slots {pa pb la lb : Int64} {f t : Nat} (hf : f ≤ 719) (ht : t ≤ 719) (J : so_J U P C O) (K : so_K U P C O a1 a2 a3 a4) (D : so_D U P C O)
    (hk : ∀ i, i < 10 → so_kp pa pb i = if U i = true then P i else 0) (hl : ∀ i, i < 10 → U i = true → so_kp la lb i = C i) (hp : post 1) :
    wpL_slots post (jb, a1, a2, a3, a4) pa pb la lb (nI f) (nI t) := by
  refine pk_loop (σ := Unit) (fun n s _ => wL_slots_6 post pa pb la lb (nI f) (nI t) jb a1 a2 a3 a4 n (nI (so_cnt (so_G U P C O f t) s)) (nI s)) (fun _ _ => True) 720 0 () (by omega) trivial (fun n _ _ => pk_le 720 720 (fun _ => sw_free (by omega) (by omega) J K D (br_t (by rw [so_G_all ht]) hp)) (fun z => absurd z (by omega))) (fun n s _ hs _ hw => ?_)
  exact pk_le 720 s (fun z => absurd z (by omega)) (fun _ => sw_slots21 hf ht hs J K D hk hl (hw () trivial))
end
end
section
/-! the law: how a call changes the picture -/
/-- what the law keeps is the picture -/
def so_I (U : Nat → Bool) (P C O : Nat → Nat) (pa pb la lb : Int64) (a1 a2 a3 a4 : Nat → Int32) : Prop :=
  so_J U P C O ∧ so_D U P C O ∧ so_K U P C O a1 a2 a3 a4 ∧ (∀ i, i < 10 → so_kp pa pb i = if U i = true then P i else 0) ∧ (∀ i, i < 10 → U i = true → so_kp la lb i = C i)
section
variable {U : Nat → Bool} {P C O : Nat → Nat} {pa pb la lb : Int64} {a1 a2 a3 a4 : Nat → Int32}
theorem so_I_take {k p c o : Nat} (h : so_I U P C O pa pb la lb a1 a2 a3 a4) (hk : k < 10) (hu : U k = false) (hV : so_V p) (h1 : 1 ≤ c) (h2 : c ≤ p) (ho : o < p) (hr : c ≤ so_ra U P C O p o 10) :
    so_I (so_up U k true) (so_un P k p) (so_un C k c) (so_un O k o) (so_wA pa k p) (so_wB pb k p) (so_wA la k c) (so_wB lb k c) (upd a1 k 1) (upd a2 k (nI p)) (upd a3 k (nI c)) (upd a4 k (nI o)) := by
  obtain ⟨J, D, K, hp, hl⟩ := h
  have hp2 := hV.2.1
  refine ⟨fun i hi hU => ?_, fun i j t hi hj hn hU hW hr1 => ?_, fun i hi => ?_, fun i hi => ?_, fun i hi hU => ?_⟩
  · by_cases e : i = k
    · subst e
      rw [so_un_s, so_un_s, so_un_s]
      exact ⟨hV, h1, h2, ho⟩
    · rw [so_up_n e] at hU
      rw [so_un_n e, so_un_n e, so_un_n e]
      exact J i hi hU
  · by_cases e : i = k
    · subst e
      have e2 : j ≠ i := fun z => hn z.symm
      rw [so_un_s, so_un_s, so_un_s] at hr1
      rw [so_up_n e2] at hW
      rw [so_un_n e2, so_un_n e2, so_un_n e2]
      cases q : so_run (P j) (C j) (O j) t with
      | false => rfl
      | true => exact (so_dis hV (J j hj hW).1 h1 (Nat.le_trans hr (so_ra_job hj hW)) hr1 q).elim
    · rw [so_up_n e] at hU
      rw [so_un_n e, so_un_n e, so_un_n e] at hr1
      by_cases e2 : j = k
      · subst e2
        rw [so_un_s, so_un_s, so_un_s]
        cases q : so_run p c o t with
        | false => rfl
        | true => exact (so_dis hV (J i hi hU).1 h1 (Nat.le_trans hr (so_ra_job hi hU)) q hr1).elim
      · rw [so_up_n e2] at hW
        rw [so_un_n e2, so_un_n e2, so_un_n e2]
        exact D i j t hi hj hn hU hW hr1
  · by_cases e : i = k
    · subst e
      rw [so_up_s, so_un_s, so_un_s, so_un_s, pk_us, pk_us, pk_us, pk_us]
      exact ⟨fun z => absurd z (by decide), fun _ => ⟨rfl, rfl, rfl, rfl⟩⟩
    · rw [so_up_n e, so_un_n e, so_un_n e, so_un_n e, pk_un e, pk_un e, pk_un e, pk_un e]
      exact K i hi
  · by_cases e : i = k
    · subst e
      rw [so_kp_s hi (by omega), so_up_s, so_un_s, if_pos rfl]
    · rw [so_kp_n hk hi e (by omega), so_up_n e, so_un_n e]
      exact hp i hi
  · by_cases e : i = k
    · subst e
      rw [so_kp_s hi (by omega), so_un_s]
    · rw [so_up_n e] at hU
      rw [so_kp_n hk hi e (by omega), so_un_n e]
      exact hl i hi hU
theorem so_I_rem {k : Nat} (h : so_I U P C O pa pb la lb a1 a2 a3 a4) (hk : k < 10) :
    so_I (so_up U k false) P C O (so_wA pa k 0) (so_wB pb k 0) la lb (upd a1 k 0) a2 a3 a4 := by
  obtain ⟨J, D, K, hp, hl⟩ := h
  have old : ∀ i, so_up U k false i = true → i ≠ k ∧ U i = true := by
    intro i hi
    by_cases e : i = k
    · subst e
      rw [so_up_s] at hi
      exact absurd hi (by decide)
    · rw [so_up_n e] at hi
      exact ⟨e, hi⟩
  refine ⟨fun i hi hU => J i hi (old i hU).2, fun i j t hi hj hn hU hW => D i j t hi hj hn (old i hU).2 (old j hW).2, fun i hi => ?_, fun i hi => ?_, fun i hi hU => hl i hi (old i hU).2⟩
  · by_cases e : i = k
    · subst e
      rw [so_up_s, pk_us]
      exact ⟨fun _ => rfl, fun z => absurd z (by decide)⟩
    · rw [so_up_n e, pk_un e]
      exact K i hi
  · by_cases e : i = k
    · subst e
      rw [so_kp_s hi (by omega), so_up_s, if_neg (by decide)]
    · rw [so_kp_n hk hi e (by omega), so_up_n e]
      exact hp i hi
end
theorem so_I_0 : so_I (fun _ => false) (fun _ => 0) (fun _ => 0) (fun _ => 0) 0 0 0 0 (fun _ => 0) (fun _ => 0) (fun _ => 0) (fun _ => 0) := by
  have z : ∀ i, i < 10 → so_kp 0 0 i = 0 := by decide +kernel
  exact ⟨fun i _ h => absurd h Bool.false_ne_true, fun i j t _ _ _ h => absurd h Bool.false_ne_true, fun i hi => ⟨fun _ => rfl, fun h => absurd h Bool.false_ne_true⟩, fun i hi => z i hi, fun i _ h => absurd h Bool.false_ne_true⟩
/-! the law's own small methods -/
theorem sw_cell {q : Int32 → Prop} {L m : Nat} {xs : Nat → Int32} (hL : L ≤ 260) (hm : m ≤ 2) (h : ∀ x, q x) : wpL_cell q L xs () (nI m) :=
  pk_le L m (fun _ => h 0) (fun z => ⟨pk_in m L z, h _⟩)
theorem so_V5 : ∀ m, m < 5 → 2 ≤ m + 2 ∧ m + 2 ≤ 360 ∧ 360 % (m + 2) = 0 := by decide
theorem sw_period {q : Int32 → Prop} (x : Int32) (h : ∀ p, so_V p → q (nI p)) : wpL_period q () x := by
  obtain ⟨j, hj, e⟩ := pk_andE x (m := 2147483647) 31 (by decide)
  have hm : j % 12 < 12 := Nat.mod_lt _ (by decide)
  refine ⟨by decide, nm_r (e' := nI (j % 12)) (by rw [e]; exact pk_rem (d := 12) hj (by omega) (by omega)) ?_⟩
  generalize j % 12 = m at *
  exact pk_le 5 m (fun _ => pk_eq m 5 (fun _ => h 8 (by unfold so_V; decide)) (fun _ => pk_eq m 6 (fun _ => h 9 (by unfold so_V; decide)) (fun _ => pk_eq m 7 (fun _ => h 10 (by unfold so_V; decide)) (fun _ => pk_eq m 8 (fun _ => h 12 (by unfold so_V; decide)) (fun _ => pk_eq m 9 (fun _ => h 36 (by unfold so_V; decide)) (fun _ => pk_eq m 10 (fun _ => h 60 (by unfold so_V; decide)) (fun _ => h 360 (by unfold so_V; decide)))))))) (fun z => nm_r (nI_add m 2) (h (m + 2) (so_V5 m z)))
end
section
/-! behind the loop: the slots, the room, two more admissions -/
section
variable {U : Nat → Bool} {P C O : Nat → Nat} {pa pb la lb : Int64} {a1 a2 a3 a4 : Nat → Int32} {post : Int32 → Prop} {L kc ks : Nat} {xs : Nat → Int32}
theorem sw_362 {p : Nat} (hV : so_V p) (J : so_J U P C O) (K : so_K U P C O a1 a2 a3 a4) (hp : post 1) : wL_law_362 post L xs (nI (so_cnt U 10)) (nI p) (nI (so_mx (fun o => so_ra U P C O p o 10) p)) kc ks (nI (so_cnt U 10)) a1 a2 a3 a4 := by
  have hp2 := hV.2.1
  have hj := so_cnt_le U 10
  have hml : so_mx (fun o => so_ra U P C O p o 10) p ≤ p := so_mx_le (fun k => so_ra_le 10)
  refine pk_eq (so_cnt U 10) 10 (fun _ => hp) (fun z => pk_eq (so_mx (fun o => so_ra U P C O p o 10) p) 0 (fun _ => hp) (fun y => ?_))
  obtain ⟨k, hk, ek⟩ := so_mx_at (f := fun o => so_ra U P C O p o 10) (n := p) (by omega)
  refine sw_admit hV (by omega) J K (fun w => absurd w (by omega)) (fun _ _ w => absurd w z) (fun _ _ _ w => absurd (w k hk) ?_) (fun i o hi _ _ _ _ _ _ => br_f (nI_pos (by omega)) hp)
  have ek' : so_ra U P C O p k 10 = so_mx (fun o => so_ra U P C O p o 10) p := ek
  omega
theorem sw_357 {p : Nat} {z : Int32} (hV : so_V p) (J : so_J U P C O) (K : so_K U P C O a1 a2 a3 a4) (hp : post 1) : wL_law_357 post L xs (nI (so_cnt U 10)) (nI p) (nI (so_mx (fun o => so_ra U P C O p o 10) p)) z z kc ks (nI (so_cnt U 10)) a1 a2 a3 a4 :=
  br_t rfl (sw_362 hV J K hp)
theorem sw_278 {f t : Nat} (hL : L ≤ 260) (hf : f ≤ 719) (ht : t ≤ 719) (h : so_I U P C O pa pb la lb a1 a2 a3 a4) (hp : post 1) : wL_law_278 post L xs (nI (so_cnt U 10)) (nI t) (nI f) lb la pb pa kc ks (nI (so_cnt U 10)) a1 a2 a3 a4 := by
  obtain ⟨J, D, K, hk, hl⟩ := h
  have hj := so_cnt_le U 10
  unfold wL_law_278
  refine sw_slots hf ht J K D hk hl (br_f (by decide) (sw_cell (m := 2) hL (by omega) (fun x => sw_period x (fun p hV => sw_room hV J K ?_))))
  have hp2 := hV.2.1
  have hml : so_mx (fun o => so_ra U P C O p o 10) p ≤ p := so_mx_le (fun k => so_ra_le 10)
  refine br_f (nI_pos (by omega)) (br_t (nI_le hml (by omega)) ?_)
  rw [nI_1]
  refine sw_admit hV (by omega) J K (fun w => ?_) (fun w1 w2 w => ?_) (fun w1 w2 w w3 => ?_) (fun i o hi hu ho w1 w2 w w3 => ?_)
  · exact pk_le 10 (so_cnt U 10) (fun _ => sw_362 hV J K hp) (fun _ => pk_eq (so_mx (fun o => so_ra U P C O p o 10) p) p (fun _ => sw_357 hV J K hp) (fun y => absurd w (by omega)))
  · exact pk_le 10 (so_cnt U 10) (fun _ => sw_362 hV J K hp) (fun y => absurd w (by omega))
  · exact pk_le 10 (so_cnt U 10) (fun _ => sw_362 hV J K hp) (fun _ => pk_eq (so_mx (fun o => so_ra U P C O p o 10) p) p (fun y => absurd w2 (by omega)) (fun _ => sw_357 hV J K hp))
  · have g := so_mx_ge (f := fun o => so_ra U P C O p o 10) ho
    have g' : so_ra U P C O p o 10 ≤ so_mx (fun o => so_ra U P C O p o 10) p := g
    exact absurd w3 (by omega)
end
end
section
/-! the law's loop -/
/-- the loop's invariant -/
def so_W (x2 x4 x6 x8 : Int64) (x10 x11 jb : Int32) (a1 a2 a3 a4 : Nat → Int32) : Prop :=
  ∃ (U : Nat → Bool) (P C O : Nat → Nat) (k : Nat), x11 = nI k ∧ k ≤ 300 ∧ x10 = nI (so_cnt U 10) ∧ jb = nI (so_cnt U 10) ∧ so_I U P C O x2 x4 x6 x8 a1 a2 a3 a4
section
variable {U : Nat → Bool} {P C O : Nat → Nat} {pa pb la lb : Int64} {a1 a2 a3 a4 : Nat → Int32} {post : Int32 → Prop} {L kc ks : Nat} {xs : Nat → Int32} {J25 : Int64 → Int64 → Int64 → Int64 → Int32 → Int32 → Int32 → (Nat → Int32) → (Nat → Int32) → (Nat → Int32) → (Nat → Int32) → Prop}
theorem sw_167n {r x14 x15 : Int32} {k : Nat} (hr : r < 0) (h : so_I U P C O pa pb la lb a1 a2 a3 a4)
    (H : ∀ (V : Nat → Bool) (Q D E : Nat → Nat) (qa qb ma mb : Int64) (b1 b2 b3 b4 : Nat → Int32), so_I V Q D E qa qb ma mb b1 b2 b3 b4 → J25 qa qb ma mb (nI (so_cnt V 10)) (nI (k + 3)) (nI (so_cnt V 10)) b1 b2 b3 b4) :
    wL_law_167 post L xs J25 pa pb la lb (nI (so_cnt U 10)) (nI k) r x14 x15 kc ks (nI (so_cnt U 10)) a1 a2 a3 a4 :=
  br_t hr (nm_r (nI_add k 3) (H U P C O pa pb la lb a1 a2 a3 a4 h))
theorem sw_167t {i k p c o : Nat} (h : so_I U P C O pa pb la lb a1 a2 a3 a4) (hi : i < 10) (hu : U i = false) (hV : so_V p) (h1 : 1 ≤ c) (h2 : c ≤ p) (ho : o < p) (hr : c ≤ so_ra U P C O p o 10)
    (H : ∀ (V : Nat → Bool) (Q D E : Nat → Nat) (qa qb ma mb : Int64) (b1 b2 b3 b4 : Nat → Int32), so_I V Q D E qa qb ma mb b1 b2 b3 b4 → J25 qa qb ma mb (nI (so_cnt V 10)) (nI (k + 3)) (nI (so_cnt V 10)) b1 b2 b3 b4) :
    wL_law_167 post L xs J25 pa pb la lb (nI (so_cnt U 10)) (nI k) (nI i) (nI p) (nI c) kc ks (nI (so_cnt U 10) + 1) (upd a1 i 1) (upd a2 i (nI p)) (upd a3 i (nI c)) (upd a4 i (nI o)) := by
  have g := H _ _ _ _ _ _ _ _ _ _ _ _ (so_I_take h hi hu hV h1 h2 ho hr)
  rw [so_cnt_set hi hu] at g
  rw [nI_1]
  exact br_f (nI_pos (by omega)) (sw_withA hi (sw_withB hi (sw_withA hi (sw_withB hi (nm_r (nI_1 _) (nm_r (nI_add k 3) g))))))
theorem sw_step {n k : Nat} (hL : L ≤ 260) (hk : k ≤ 300) (h : so_I U P C O pa pb la lb a1 a2 a3 a4) (hp : post 1)
    (H : k ≤ 260 → ∀ (V : Nat → Bool) (Q D E : Nat → Nat) (qa qb ma mb : Int64) (b1 b2 b3 b4 : Nat → Int32), so_I V Q D E qa qb ma mb b1 b2 b3 b4 → wL_law_25 post L xs kc ks n qa qb ma mb (nI (so_cnt V 10)) (nI (k + 3)) (nI (so_cnt V 10)) b1 b2 b3 b4) :
    wL_law_25 post L xs kc ks (n + 1) pa pb la lb (nI (so_cnt U 10)) (nI k) (nI (so_cnt U 10)) a1 a2 a3 a4 := by
  have hj := so_cnt_le U 10
  have h' := h
  obtain ⟨J, D, K, _, _⟩ := h'
  refine pk_le L (k + 2) (fun z => ?_) (fun z => ?_) rfl (nI_add k 2)
  · refine sw_cell (m := 0) hL (by omega) (fun x => ?_)
    obtain ⟨f, hf, ef⟩ := pk_andE x (m := 511) 9 (by decide)
    refine nm_r ef (sw_cell (m := 1) hL (by omega) (fun y => ?_))
    obtain ⟨t, ht, et⟩ := pk_andE y (m := 1023) 10 (by decide)
    exact nm_r et (pk_le t 719 (fun w => sw_278 hL (by omega) w h hp) (fun w => sw_278 (t := 719) hL (by omega) (by omega) h hp))
  · have H' := H (by omega)
    refine ⟨pk_in k L (by omega), nm_e ⟨pk_in (k + 1) L (by omega) (nI_add k 1), sw_period _ (fun p hV => ⟨pk_in (k + 2) L (by omega) (nI_add k 2), ?_⟩)⟩⟩
    have hp2 := hV.2.1
    obtain ⟨c, hc, ec⟩ := pk_andE (xs (nI k + 2).toNatClampNeg) (m := 3) 2 (by decide)
    refine nm_r (e' := nI (1 + c)) (by rw [ec]; exact nI_add 1 c) (br_c (fun _ => br_c (fun _ => ⟨pk_in (k + 1) L (by omega) (nI_add k 1), ?_⟩) (fun _ => ⟨pk_in (k + 2) L (by omega) (nI_add k 2), ?_⟩)) (fun _ => ?_))
    · obtain ⟨g, hg, eg⟩ := pk_andE (xs (nI k + 1).toNatClampNeg) (m := 15) 4 (by decide)
      refine nm_r eg (sw_remove (by omega) K (fun _ => br_t (by decide) (sw_167n (by decide) h H')) (fun hg2 hu => ?_))
      have hc2 := so_cnt_clr hg2 hu
      have e : nI (so_cnt U 10) - 1 = nI (so_cnt (so_up U g false) 10) := by
        rw [← hc2]
        exact nI_pred _
      show ((nI (so_cnt U 10) - 1 < 0 → _) ∧ (¬ nI (so_cnt U 10) - 1 < 0 → _))
      rw [e]
      exact br_f (nI_pos (by omega)) (sw_withA (v := 0) hg2 (sw_withB (v := 0) hg2 (sw_167n (by decide) (so_I_rem h hg2) H')))
    · obtain ⟨o, ho, eo⟩ := pk_andE (xs (nI k + 2).toNatClampNeg >>> ((2 : Int32) &&& 31)) (m := 7) 3 (by decide)
      rw [eo]
      exact sw_admitAt hV (by omega) (by omega) J K (fun r hr => sw_167n hr h H') (fun i hi hu w1 w2 w3 w4 w5 => sw_167t h hi hu hV w2 w3 w1 w5 H')
    · exact sw_admit hV (by omega) J K (fun _ => sw_167n (by decide) h H') (fun _ _ _ => sw_167n (by decide) h H') (fun _ _ _ _ => sw_167n (by decide) h H') (fun i o hi hu w1 w2 w3 w4 w5 => sw_167t h hi hu hV w2 w3 w1 w5 H')
end
theorem sw_loop {post : Int32 → Prop} {L kc ks : Nat} {xs : Nat → Int32} (hL : L ≤ 260) (hp : post 1) : ∃ n, wL_law_25 post L xs kc ks n 0 0 0 0 0 3 0 (fun _ => 0) (fun _ => 0) (fun _ => 0) (fun _ => 0) := by
  refine lp11 (fun n x2 x4 x6 x8 x10 x11 jb a1 a2 a3 a4 => wL_law_25 post L xs kc ks n x2 x4 x6 x8 x10 x11 jb a1 a2 a3 a4) so_W (fun _ _ _ _ _ x11 _ _ _ _ _ => 300 - x11.toNatClampNeg) (fun n x2 x4 x6 x8 x10 x11 jb a1 a2 a3 a4 hI hw => ?_) 0 0 0 0 0 3 0 (fun _ => 0) (fun _ => 0) (fun _ => 0) (fun _ => 0) ⟨fun _ => false, fun _ => 0, fun _ => 0, fun _ => 0, 3, rfl, by omega, rfl, rfl, so_I_0⟩
  obtain ⟨U, P, C, O, k, rfl, hk, rfl, rfl, h⟩ := hI
  refine sw_step hL hk h hp (fun hk2 V Q D E qa qb ma mb b1 b2 b3 b4 g => hw _ _ _ _ _ _ _ _ _ _ _ ⟨V, Q, D, E, k + 3, rfl, by omega, rfl, rfl, g⟩ ?_)
  show 300 - (nI (k + 3)).toNatClampNeg < 300 - (nI k).toNatClampNeg
  rw [nI_clamp (by omega), nI_clamp (by omega)]
  omega
theorem i_vc (xs : Nat → Int32) (L : Nat) (hL : L ≤ 260) : wpL_law (fun r => r = 1) L xs :=
  ⟨4, 40, by omega, by omega, by omega, by omega, by omega, by omega, by omega, by omega, by omega, by omega, sw_loop hL rfl⟩
end
