section
theorem pk_us {f : Nat → Int32} {k : Nat} {x : Int32} : upd f k x k = x := if_pos rfl
theorem pk_un {f : Nat → Int32} {k j : Nat} {x : Int32} (h : j ≠ k) : upd f k x j = f j := if_neg h
theorem pk_sub {a b : Nat} (h : b ≤ a) : nI a - nI b = nI (a - b) := by
  obtain ⟨c, rfl⟩ : ∃ c, a = c + b := ⟨a - b, by omega⟩
  rw [← nI_add, Int32.add_sub_cancel, Nat.add_sub_cancel]
theorem pk_m1 (n : Nat) : nI (n + 1) + (-1) = nI n := by
  rw [← nI_1, Int32.add_assoc, show (1 : Int32) + (-1) = 0 from rfl, Int32.add_zero]
theorem pk_mul (a b : Nat) : nI a * nI b = nI (a * b) := (Int32.ofNat_mul a b).symm
theorem pk_div {a d : Nat} (ha : a < 2 ^ 31) (h0 : 0 < d) (hd : d < 2 ^ 31) : nI a / nI d = nI (a / d) := by
  apply Int32.toInt_inj.mp
  rw [lg_idiv_nonneg (by rw [nI_toInt ha]; omega) (by rw [nI_toInt hd]; omega), nI_toInt ha, nI_toInt hd, nI_toInt (Nat.lt_of_le_of_lt (Nat.div_le_self a d) ha)]
  first | rfl | exact (Int.natCast_ediv _ _).symm
theorem pk_rem {a d : Nat} (ha : a < 2 ^ 31) (h0 : 0 < d) (hd : d < 2 ^ 31) : nI a - nI a / nI d * nI d = nI (a % d) := by
  rw [pk_div ha h0 hd, pk_mul, pk_sub (Nat.div_mul_le_self a d)]
  exact congrArg nI (by have := Nat.div_add_mod' a d; omega)
theorem pk_le {x y : Int32} {A B : Prop} (a b : Nat) (f : a ≤ b → A) (g : b < a → B) (hx : x = nI a := by rfl) (hy : y = nI b := by rfl) (ha : a < 2 ^ 31 := by omega) (hb : b < 2 ^ 31 := by omega) : (x ≤ y → A) ∧ (¬ x ≤ y → B) := by
  subst hx hy
  rw [nI_leI ha hb]
  exact ⟨f, fun z => g (by omega)⟩
theorem pk_lt {x y : Int32} {A B : Prop} (a b : Nat) (f : a < b → A) (g : b ≤ a → B) (hx : x = nI a := by rfl) (hy : y = nI b := by rfl) (ha : a < 2 ^ 31 := by omega) (hb : b < 2 ^ 31 := by omega) : (x < y → A) ∧ (¬ x < y → B) := by
  subst hx hy
  rw [nI_ltI ha hb]
  exact ⟨f, fun z => g (by omega)⟩
theorem pk_eq {x y : Int32} {A B : Prop} (a b : Nat) (f : a = b → A) (g : a ≠ b → B) (hx : x = nI a := by rfl) (hy : y = nI b := by rfl) (ha : a < 2 ^ 31 := by omega) (hb : b < 2 ^ 31 := by omega) : (x = y → A) ∧ (¬ x = y → B) := by
  subst hx hy
  rw [nI_eq ha hb]
  exact ⟨f, g⟩
theorem pk_in {x : Int32} (n N : Nat) (h : n < N) (hx : x = nI n := by rfl) (hN : N < 2 ^ 31 := by omega) : vp_in x N := by
  subst hx
  exact vp_in_nI h hN
theorem pk_cl {x : Int32} (n : Nat) (hx : x = nI n := by rfl) (h : n < 2 ^ 31 := by omega) : x.toNatClampNeg = n := by
  subst hx
  exact nI_clamp h
end
section
/-! pure: caps, digits, sums, costs, folds -/
def rd_cp (x : Nat) : Nat := if x ≤ 100000 then x else 100000
def rd_rl (c : Nat) : Nat := if c = 99 then 100000 else c
def rd_ok (c : Nat) : Prop := c ≤ 30 ∨ c = 99
def rd_v (c : Nat) : Int32 := if c < 100000 then nI c else -4
def rd_dg (m i : Nat) : Nat := m / 3 ^ (5 - i) % 3
theorem rd_cp_le (x : Nat) : rd_cp x ≤ 100000 := by unfold rd_cp; split <;> omega
theorem rd_cp_le' (x : Nat) : rd_cp x ≤ x := by unfold rd_cp; split <;> omega
theorem rd_cp_lt {x b : Nat} (hb : b ≤ 100000) : rd_cp x < b ↔ x < b := by unfold rd_cp; split <;> omega
theorem rd_cp_ge {x b : Nat} (hb : b ≤ 100000) (h : b ≤ x) : b ≤ rd_cp x := by unfold rd_cp; split <;> omega
theorem rd_cp_id {x : Nat} (h : x ≤ 100000) : rd_cp x = x := if_pos h
theorem rd_cp_0 : rd_cp 0 = 0 := rfl
theorem rd_cp_add (a o b : Nat) : rd_cp (rd_cp a + (o + rd_cp b)) = rd_cp (a + (o + b)) := by
  unfold rd_cp; repeat' split
  all_goals omega
theorem rd_cp_add2 (a b : Nat) : rd_cp (rd_cp a + b) = rd_cp (a + b) := by
  unfold rd_cp; repeat' split
  all_goals omega
theorem rd_v_cp (x : Nat) : rd_v (rd_cp x) = rd_v x := by
  unfold rd_v rd_cp
  by_cases h : x ≤ 100000
  · rw [if_pos h]
  · rw [if_neg h, if_neg (by omega), if_neg (by omega)]
theorem rd_v_t {c : Nat} (h : c < 100000) : rd_v c = nI c := if_pos h
theorem rd_v_f {c : Nat} (h : ¬ c < 100000) : rd_v c = -4 := if_neg h
theorem rd_nI_m4 {c : Nat} (h : c < 2 ^ 31) : ¬ nI c = -4 := by
  intro e
  have h1 := congrArg Int32.toInt e
  rw [nI_toInt h, show (-4 : Int32).toInt = -4 from by decide] at h1
  omega
theorem rd_v_eq {a b : Nat} (ha : a ≤ 100000) (hb : b ≤ 100000) : rd_v a = rd_v b ↔ a = b := by
  constructor
  · intro h
    by_cases h1 : a < 100000
    · by_cases h2 : b < 100000
      · rw [rd_v_t h1, rd_v_t h2] at h
        exact (nI_eq (by omega) (by omega)).mp h
      · rw [rd_v_t h1, rd_v_f h2] at h
        exact absurd h (rd_nI_m4 (by omega))
    · by_cases h2 : b < 100000
      · rw [rd_v_f h1, rd_v_t h2] at h
        exact absurd h.symm (rd_nI_m4 (by omega))
      · omega
  · intro h; rw [h]
theorem rd_dg_lt (m i : Nat) : rd_dg m i < 3 := Nat.mod_lt _ (by decide)
theorem rd_dgB {k n M t i : Nat} (hk : k + n = 5) (hM : 3 ^ (n + 1) ∣ M) (ht : t < 3 ^ (n + 1)) (hi : i < k) : rd_dg (M + t) i = rd_dg M i := by
  obtain ⟨q, rfl⟩ := hM
  have e : 3 ^ (5 - i) = 3 ^ (n + 1) * 3 ^ (5 - i - (n + 1)) := by
    rw [← Nat.pow_add, show n + 1 + (5 - i - (n + 1)) = 5 - i from by omega]
  have p : 0 < 3 ^ (n + 1) := Nat.pow_pos (by decide)
  unfold rd_dg
  rw [e, ← Nat.div_div_eq_div_mul, ← Nat.div_div_eq_div_mul, Nat.mul_add_div p, Nat.div_eq_of_lt ht, Nat.add_zero, Nat.mul_div_cancel_left _ p]
theorem rd_dgA {k n M x t : Nat} (hk : k + n = 5) (hM : 3 ^ (n + 1) ∣ M) (hx : x < 3) (ht : t < 3 ^ n) : rd_dg (M + x * 3 ^ n + t) k = x := by
  obtain ⟨q, rfl⟩ := hM
  have e : 5 - k = n := by omega
  have p : 0 < 3 ^ n := Nat.pow_pos (by decide)
  have e2 : 3 ^ (n + 1) * q + x * 3 ^ n + t = 3 ^ n * (3 * q + x) + t := by
    rw [Nat.pow_succ, Nat.mul_add, Nat.mul_assoc, Nat.mul_comm x]
  unfold rd_dg
  rw [e, e2, Nat.mul_add_div p, Nat.div_eq_of_lt ht]
  omega
theorem rd_dg_mod {m i a : Nat} (hi : 5 - i < a) : rd_dg (m % 3 ^ a) i = rd_dg m i := by
  obtain ⟨d, rfl⟩ : ∃ d, a = (5 - i) + (d + 1) := ⟨a - (5 - i) - 1, by omega⟩
  unfold rd_dg
  have p : 0 < 3 ^ (5 - i) := Nat.pow_pos (by decide)
  have h := Nat.div_add_mod m (3 ^ ((5 - i) + (d + 1)))
  generalize m % 3 ^ ((5 - i) + (d + 1)) = r at h ⊢
  generalize m / 3 ^ ((5 - i) + (d + 1)) = q at h
  subst h
  rw [Nat.pow_add, Nat.mul_assoc, Nat.mul_add_div p, Nat.pow_succ]
  have e : 3 ^ d * 3 * q = 3 * (3 ^ d * q) := by rw [Nat.mul_comm (3 ^ d) 3, Nat.mul_assoc]
  rw [e]
  omega
def rd_s (f : Nat → Nat) : Nat → Nat → Nat
  | _, 0 => 0
  | i, n + 1 => f i + rd_s f (i + 1) n
theorem rd_s_congr {f g : Nat → Nat} : ∀ (n i : Nat), (∀ j, i ≤ j → j < i + n → f j = g j) → rd_s f i n = rd_s g i n := by
  intro n
  induction n with
  | zero => intro i _; rfl
  | succ n ih =>
    intro i h
    show f i + rd_s f (i + 1) n = g i + rd_s g (i + 1) n
    rw [h i (by omega) (by omega), ih (i + 1) (fun j h1 h2 => h j (by omega) (by omega))]
theorem rd_s_le {f g : Nat → Nat} : ∀ (n i : Nat), (∀ j, i ≤ j → j < i + n → f j ≤ g j) → rd_s f i n ≤ rd_s g i n := by
  intro n
  induction n with
  | zero => intro i _; exact Nat.le_refl _
  | succ n ih =>
    intro i h
    exact Nat.add_le_add (h i (by omega) (by omega)) (ih (i + 1) (fun j h1 h2 => h j (by omega) (by omega)))
theorem rd_s_add (f g : Nat → Nat) : ∀ (n i : Nat), rd_s (fun j => f j + g j) i n = rd_s f i n + rd_s g i n := by
  intro n
  induction n with
  | zero => intro i; rfl
  | succ n ih =>
    intro i
    show f i + g i + rd_s (fun j => f j + g j) (i + 1) n = (f i + rd_s f (i + 1) n) + (g i + rd_s g (i + 1) n)
    rw [ih]; omega
theorem rd_s_0 : ∀ (n i : Nat), rd_s (fun _ => 0) i n = 0 := by
  intro n
  induction n with
  | zero => intro i; rfl
  | succ n ih =>
    intro i
    show 0 + rd_s (fun _ => 0) (i + 1) n = 0
    rw [ih]
/-- the cost of the variables i .. i + n - 1, by rows -/
def rd_C (O : Nat → Nat → Nat) (P : Nat → Nat → Nat → Nat → Nat) (m : Nat) : Nat → Nat → Nat
  | _, 0 => 0
  | i, n + 1 => O i (rd_dg m i) + rd_s (fun j => P i j (rd_dg m i) (rd_dg m j)) (i + 1) n + rd_C O P m (i + 1) n
/-- what the values chosen from s on ahead of k add to value y of j -/
def rd_A (P : Nat → Nat → Nat → Nat → Nat) (s m : Nat) : Nat → Nat → Nat → Nat
  | 0, _, _ => 0
  | k + 1, j, y => if s ≤ k then rd_A P s m k j y + P k j (rd_dg m k) y else 0
/-- the cost of the variables s .. k - 1, by columns -/
def rd_S (O : Nat → Nat → Nat) (P : Nat → Nat → Nat → Nat → Nat) (s m : Nat) : Nat → Nat
  | 0 => 0
  | k + 1 => if s ≤ k then rd_S O P s m k + (O k (rd_dg m k) + rd_A P s m k k (rd_dg m k)) else 0
section
variable {O : Nat → Nat → Nat} {P : Nat → Nat → Nat → Nat → Nat} {s m : Nat}
theorem rd_A_s {j y : Nat} : rd_A P s m s j y = 0 := by
  cases s with
  | zero => rfl
  | succ s => exact if_neg (by omega)
theorem rd_S_s : rd_S O P s m s = 0 := by
  cases s with
  | zero => rfl
  | succ s => exact if_neg (by omega)
theorem rd_A_n {k j y : Nat} (h : s ≤ k) : rd_A P s m (k + 1) j y = rd_A P s m k j y + P k j (rd_dg m k) y := if_pos h
theorem rd_S_n {k : Nat} (h : s ≤ k) : rd_S O P s m (k + 1) = rd_S O P s m k + (O k (rd_dg m k) + rd_A P s m k k (rd_dg m k)) := if_pos h
theorem rd_key : ∀ (n k : Nat), s ≤ k → rd_S O P s m k + rd_s (fun j => rd_A P s m k j (rd_dg m j)) k n + rd_C O P m k n = rd_S O P s m (k + n) := by
  intro n
  induction n with
  | zero => intro k _; rfl
  | succ n ih =>
    intro k hk
    have e := ih (k + 1) (by omega)
    rw [rd_S_n hk] at e
    have e2 : rd_s (fun j => rd_A P s m (k + 1) j (rd_dg m j)) (k + 1) n = rd_s (fun j => rd_A P s m k j (rd_dg m j)) (k + 1) n + rd_s (fun j => P k j (rd_dg m k) (rd_dg m j)) (k + 1) n := by
      rw [← rd_s_add]
      exact rd_s_congr n (k + 1) (fun j _ _ => rd_A_n hk)
    rw [e2, show k + 1 + n = k + (n + 1) from by omega] at e
    rw [← e]
    show rd_S O P s m k + (rd_A P s m k k (rd_dg m k) + rd_s (fun j => rd_A P s m k j (rd_dg m j)) (k + 1) n) + (O k (rd_dg m k) + rd_s (fun j => P k j (rd_dg m k) (rd_dg m j)) (k + 1) n + rd_C O P m (k + 1) n) = _
    omega
theorem rd_C_S (n : Nat) : rd_C O P m s n = rd_S O P s m (s + n) := by
  rw [← rd_key n s (Nat.le_refl s), rd_S_s, rd_s_congr (g := fun _ => 0) n s (fun j _ _ => rd_A_s), rd_s_0]
  omega
theorem rd_A_congr {m' j y : Nat} : ∀ k, (∀ h, s ≤ h → h < k → rd_dg m' h = rd_dg m h) → rd_A P s m' k j y = rd_A P s m k j y := by
  intro k
  induction k with
  | zero => intro _; rfl
  | succ k ih =>
    intro hh
    by_cases hk : s ≤ k
    · rw [rd_A_n hk, rd_A_n hk, ih (fun h h1 h2 => hh h h1 (by omega)), hh k hk (by omega)]
    · exact (if_neg hk).trans (if_neg hk).symm
theorem rd_S_congr {m' : Nat} : ∀ k, (∀ h, s ≤ h → h < k → rd_dg m' h = rd_dg m h) → rd_S O P s m' k = rd_S O P s m k := by
  intro k
  induction k with
  | zero => intro _; rfl
  | succ k ih =>
    intro hh
    by_cases hk : s ≤ k
    · rw [rd_S_n hk, rd_S_n hk, ih (fun h h1 h2 => hh h h1 (by omega)), hh k hk (by omega), rd_A_congr k (fun h h1 h2 => hh h h1 (by omega))]
    · exact (if_neg hk).trans (if_neg hk).symm
theorem rd_C_congr {m' : Nat} : ∀ n i, (∀ h, i ≤ h → h < i + n → rd_dg m' h = rd_dg m h) → rd_C O P m' i n = rd_C O P m i n := by
  intro n
  induction n with
  | zero => intro i _; rfl
  | succ n ih =>
    intro i hh
    show O i (rd_dg m' i) + rd_s (fun j => P i j (rd_dg m' i) (rd_dg m' j)) (i + 1) n + rd_C O P m' (i + 1) n = O i (rd_dg m i) + rd_s (fun j => P i j (rd_dg m i) (rd_dg m j)) (i + 1) n + rd_C O P m (i + 1) n
    rw [ih (i + 1) (fun h h1 h2 => hh h (by omega) (by omega)), hh i (by omega) (by omega)]
    rw [rd_s_congr (f := fun j => P i j (rd_dg m i) (rd_dg m' j)) (g := fun j => P i j (rd_dg m i) (rd_dg m j)) n (i + 1) (fun j h1 h2 => by
      show P i j (rd_dg m i) (rd_dg m' j) = P i j (rd_dg m i) (rd_dg m j)
      rw [hh j (by omega) (by omega)])]
/-- a lower bound of all completions -/
theorem rd_bnd {m' k n d L : Nat} (hs : s ≤ k) (hd : d ≤ rd_C O P m' k n) (hL : L ≤ rd_s (fun j => rd_A P s m k j (rd_dg m' j)) k n) (hm : ∀ h, s ≤ h → h < k → rd_dg m' h = rd_dg m h) : rd_cp (rd_cp (rd_S O P s m k) + d + L) ≤ rd_S O P s m' (k + n) := by
  rw [← rd_key n k hs, rd_S_congr k hm, rd_s_congr (g := fun j => rd_A P s m k j (rd_dg m' j)) n k (fun j _ _ => rd_A_congr k hm)]
  have h1 := rd_cp_le' (rd_S O P s m k)
  have h2 := rd_cp_le' (rd_cp (rd_S O P s m k) + d + L)
  omega
end
end
section
/-! pure: the fold that keeps the first of the least, masks -/
def rd_st (g : Nat → Nat) (m : Nat) (w : Nat × Nat) : Nat × Nat := if g m < w.1 then (g m, m) else w
def rd_f (g : Nat → Nat) : Nat → Nat → Nat × Nat → Nat × Nat
  | _, 0, w => w
  | lo, n + 1, w => rd_f g (lo + 1) n (rd_st g lo w)
section
variable {g : Nat → Nat}
theorem rd_st_t {m : Nat} {w : Nat × Nat} (h : g m < w.1) : rd_st g m w = (g m, m) := if_pos h
theorem rd_st_f {m : Nat} {w : Nat × Nat} (h : ¬ g m < w.1) : rd_st g m w = w := if_neg h
theorem rd_st_le {m : Nat} {w : Nat × Nat} : (rd_st g m w).1 ≤ w.1 := by
  by_cases h : g m < w.1
  · rw [rd_st_t h]; exact Nat.le_of_lt h
  · rw [rd_st_f h]; exact Nat.le_refl _
theorem rd_st_lg {m : Nat} {w : Nat × Nat} : (rd_st g m w).1 ≤ g m := by
  by_cases h : g m < w.1
  · rw [rd_st_t h]; exact Nat.le_refl _
  · rw [rd_st_f h]; omega
theorem rd_f_add : ∀ (a lo b : Nat) (w : Nat × Nat), rd_f g lo (a + b) w = rd_f g (lo + a) b (rd_f g lo a w) := by
  intro a
  induction a with
  | zero => intro lo b w; rw [Nat.zero_add]; rfl
  | succ a ih =>
    intro lo b w
    rw [show a + 1 + b = (a + b) + 1 from by omega, show lo + (a + 1) = (lo + 1) + a from by omega]
    exact ih (lo + 1) b (rd_st g lo w)
theorem rd_f_le : ∀ (n lo : Nat) (w : Nat × Nat), (rd_f g lo n w).1 ≤ w.1 := by
  intro n
  induction n with
  | zero => intro lo w; exact Nat.le_refl _
  | succ n ih => intro lo w; exact Nat.le_trans (ih (lo + 1) (rd_st g lo w)) rd_st_le
theorem rd_f_skip : ∀ (n lo : Nat) (w : Nat × Nat), (∀ m, lo ≤ m → m < lo + n → w.1 ≤ g m) → rd_f g lo n w = w := by
  intro n
  induction n with
  | zero => intro lo w _; rfl
  | succ n ih =>
    intro lo w h
    have h0 := h lo (by omega) (by omega)
    show rd_f g (lo + 1) n (rd_st g lo w) = w
    rw [rd_st_f (by omega)]
    exact ih (lo + 1) w (fun m h1 h2 => h m (by omega) (by omega))
theorem rd_f_lb : ∀ (n lo : Nat) (w : Nat × Nat) (m : Nat), lo ≤ m → m < lo + n → (rd_f g lo n w).1 ≤ g m := by
  intro n
  induction n with
  | zero => intro lo w m h1 h2; omega
  | succ n ih =>
    intro lo w m h1 h2
    show (rd_f g (lo + 1) n (rd_st g lo w)).1 ≤ g m
    by_cases h : m = lo
    · rw [h]
      exact Nat.le_trans (rd_f_le n (lo + 1) _) rd_st_lg
    · exact ih (lo + 1) _ m (by omega) (by omega)
theorem rd_f_at : ∀ (n lo : Nat) (w : Nat × Nat), rd_f g lo n w = w ∨ ∃ m, lo ≤ m ∧ m < lo + n ∧ rd_f g lo n w = (g m, m) := by
  intro n
  induction n with
  | zero => intro lo w; exact Or.inl rfl
  | succ n ih =>
    intro lo w
    rcases ih (lo + 1) (rd_st g lo w) with h | ⟨m, h1, h2, h3⟩
    · by_cases hg : g lo < w.1
      · exact Or.inr ⟨lo, Nat.le_refl _, by omega, h.trans (rd_st_t hg)⟩
      · exact Or.inl (h.trans (rd_st_f hg))
    · exact Or.inr ⟨m, by omega, by omega, h3⟩
end
theorem rd_f_congr {g g' : Nat → Nat} : ∀ (n lo : Nat) (w : Nat × Nat), (∀ m, lo ≤ m → m < lo + n → g m = g' m) → rd_f g lo n w = rd_f g' lo n w := by
  intro n
  induction n with
  | zero => intro lo w _; rfl
  | succ n ih =>
    intro lo w h
    show rd_f g (lo + 1) n (rd_st g lo w) = rd_f g' (lo + 1) n (rd_st g' lo w)
    have e : rd_st g lo w = rd_st g' lo w := by unfold rd_st; rw [h lo (by omega) (by omega)]
    rw [e]
    exact ih (lo + 1) _ (fun m h1 h2 => h m (by omega) (by omega))
/-- a value under a condition; 100000 where it doesn't hold -/
noncomputable def rd_if (p : Prop) (a : Nat) : Nat := @ite Nat p (Classical.propDecidable p) a 100000
theorem rd_if_t {p : Prop} {a : Nat} (h : p) : rd_if p a = a := by unfold rd_if; exact if_pos h
theorem rd_if_f {p : Prop} {a : Nat} (h : ¬ p) : rd_if p a = 100000 := by unfold rd_if; exact if_neg h
noncomputable def rd_g (q : Nat → Prop) (c : Nat → Nat) (m : Nat) : Nat := rd_if (q m) (rd_cp (c m))
theorem rd_g_t {q : Nat → Prop} {c : Nat → Nat} {m : Nat} (h : q m) : rd_g q c m = rd_cp (c m) := rd_if_t h
theorem rd_g_f {q : Nat → Prop} {c : Nat → Nat} {m : Nat} (h : ¬ q m) : rd_g q c m = 100000 := rd_if_f h
theorem rd_g_le {q : Nat → Prop} {c : Nat → Nat} {m : Nat} : rd_g q c m ≤ 100000 := by
  by_cases h : q m
  · rw [rd_g_t h]; exact rd_cp_le _
  · rw [rd_g_f h]; exact Nat.le_refl _
theorem rd_g_ge {q : Nat → Prop} {c : Nat → Nat} {m b : Nat} (hb : b ≤ 100000) (h : q m → b ≤ c m) : b ≤ rd_g q c m := by
  by_cases hq : q m
  · rw [rd_g_t hq]; exact rd_cp_ge hb (h hq)
  · rw [rd_g_f hq]; exact hb
theorem rd_g_congr {q q' : Nat → Prop} {c c' : Nat → Nat} {m : Nat} (h : q m ↔ q' m) (hc : q m → rd_cp (c m) = rd_cp (c' m)) : rd_g q c m = rd_g q' c' m := by
  by_cases hq : q m
  · rw [rd_g_t hq, rd_g_t (h.mp hq), hc hq]
  · rw [rd_g_f hq, rd_g_f (fun z => hq (h.mpr z))]
/-- the whole fold -/
noncomputable def rd_F (g : Nat → Nat) (N : Nat) : Nat × Nat := rd_f g 0 N (100000, 0)
theorem rd_F_le {g : Nat → Nat} {N : Nat} : (rd_F g N).1 ≤ 100000 := rd_f_le N 0 (100000, 0)
theorem rd_F_lb {g : Nat → Nat} {N m : Nat} (h : m < N) : (rd_F g N).1 ≤ g m := rd_f_lb N 0 _ m (Nat.zero_le _) (by omega)
theorem rd_F_at {g : Nat → Nat} {N : Nat} (h : (rd_F g N).1 < 100000) : (rd_F g N).2 < N ∧ (rd_F g N).1 = g (rd_F g N).2 := by
  rcases rd_f_at (g := g) N 0 (100000, 0) with e | ⟨m, _, h2, e⟩
  · have e1 : rd_F g N = (100000, 0) := e
    rw [e1] at h
    exact absurd h (by decide)
  · have e1 : rd_F g N = (g m, m) := e
    rw [e1]
    exact ⟨by omega, rfl⟩
theorem rd_F_congr {g g' : Nat → Nat} {N : Nat} (h : ∀ m, m < N → g m = g' m) : rd_F g N = rd_F g' N := rd_f_congr N 0 _ (fun m _ h2 => h m (by omega))
/-- own and pair costs -/
def rd_O (ow : Nat → Nat) (i x : Nat) : Nat := rd_rl (ow (i * 3 + x))
def rd_P (df : Bool) (pr : Nat → Nat) (h j x y : Nat) : Nat := if df = true ∧ j = h + 1 ∧ x = y then 100000 else rd_rl (pr ((h * 6 + j) * 9 + x * 3 + y))
theorem rd_P_0 {pr : Nat → Nat} {h j x y : Nat} : rd_P false pr h j x y = rd_rl (pr ((h * 6 + j) * 9 + x * 3 + y)) := if_neg (fun z => nomatch z.1)
theorem rd_P_t {pr : Nat → Nat} {h j x y : Nat} (hj : j = h + 1) (hx : x = y) : rd_P true pr h j x y = 100000 := if_pos ⟨rfl, hj, hx⟩
theorem rd_P_f {df : Bool} {pr : Nat → Nat} {h j x y : Nat} (hn : ¬ (j = h + 1 ∧ x = y)) : rd_P df pr h j x y = rd_rl (pr ((h * 6 + j) * 9 + x * 3 + y)) := if_neg (fun z => hn z.2)
theorem rd_P_le {df : Bool} {pr : Nat → Nat} {h j x y : Nat} (hp : ∀ i, rd_ok (pr i)) : rd_P df pr h j x y ≤ 100000 := by
  unfold rd_P
  split
  · exact Nat.le_refl _
  · have := hp ((h * 6 + j) * 9 + x * 3 + y)
    unfold rd_ok at this
    unfold rd_rl
    split <;> omega
theorem rd_P_mono {df : Bool} {pr : Nat → Nat} {h j x y : Nat} (hp : ∀ i, rd_ok (pr i)) : rd_P false pr h j x y ≤ rd_P df pr h j x y := by
  by_cases c : df = true ∧ j = h + 1 ∧ x = y
  · rw [show rd_P df pr h j x y = 100000 from if_pos c]; exact rd_P_le hp
  · rw [show rd_P df pr h j x y = rd_rl (pr ((h * 6 + j) * 9 + x * 3 + y)) from if_neg c, rd_P_0]; exact Nat.le_refl _
theorem rd_rl_le {c : Nat} (h : rd_ok c) : rd_rl c ≤ 100000 := by
  unfold rd_ok at h; unfold rd_rl; split <;> omega
theorem rd_C_mono {O : Nat → Nat → Nat} {P Q : Nat → Nat → Nat → Nat → Nat} {m : Nat} (h : ∀ a b x y, P a b x y ≤ Q a b x y) : ∀ n i, rd_C O P m i n ≤ rd_C O Q m i n := by
  intro n
  induction n with
  | zero => intro i; exact Nat.le_refl _
  | succ n ih =>
    intro i
    exact Nat.add_le_add (Nat.add_le_add (Nat.le_refl _) (rd_s_le n (i + 1) (fun j _ _ => h _ _ _ _))) (ih (i + 1))
/-- neighbours differ -/
def rd_zz (m i n : Nat) : Prop := ∀ j, i ≤ j → j < i + n → ¬ rd_dg m j = rd_dg m (j + 1)
theorem rd_zz_C {O : Nat → Nat → Nat} {pr : Nat → Nat} {m : Nat} : ∀ n i, (rd_zz m i n → rd_C O (rd_P true pr) m i (n + 1) = rd_C O (rd_P false pr) m i (n + 1)) ∧ (¬ rd_zz m i n → 100000 ≤ rd_C O (rd_P true pr) m i (n + 1)) := by
  intro n
  induction n with
  | zero =>
    intro i
    refine ⟨fun _ => rfl, fun h => ?_⟩
    exact absurd (fun j h1 h2 => absurd h2 (by omega)) h
  | succ n ih =>
    intro i
    obtain ⟨h1, h2⟩ := ih (i + 1)
    have e : ∀ Q : Nat → Nat → Nat → Nat → Nat, rd_C O Q m i (n + 1 + 1) = O i (rd_dg m i) + (Q i (i + 1) (rd_dg m i) (rd_dg m (i + 1)) + rd_s (fun j => Q i j (rd_dg m i) (rd_dg m j)) (i + 1 + 1) n) + rd_C O Q m (i + 1) (n + 1) := fun _ => rfl
    have e2 : rd_s (fun j => rd_P true pr i j (rd_dg m i) (rd_dg m j)) (i + 1 + 1) n = rd_s (fun j => rd_P false pr i j (rd_dg m i) (rd_dg m j)) (i + 1 + 1) n :=
      rd_s_congr n _ (fun j a b => by
        show rd_P true pr i j (rd_dg m i) (rd_dg m j) = rd_P false pr i j (rd_dg m i) (rd_dg m j)
        rw [rd_P_0, rd_P_f (by omega)])
    rw [e, e, e2]
    by_cases hd : rd_dg m i = rd_dg m (i + 1)
    · rw [rd_P_t rfl hd]
      refine ⟨fun h => absurd hd (h i (by omega) (by omega)), fun _ => by omega⟩
    · rw [rd_P_0, rd_P_f (fun z => hd z.2)]
      by_cases hz : rd_zz m (i + 1) n
      · rw [h1 hz]
        refine ⟨fun _ => rfl, fun h => absurd ?_ h⟩
        intro j a b
        by_cases hj : j = i
        · rw [hj]; exact hd
        · exact hz j (by omega) (by omega)
      · have h3 := h2 hz
        refine ⟨fun h => absurd ?_ hz, fun _ => by omega⟩
        intro j a b
        exact h j (by omega) (by omega)
end
section
/-! the reference's walks -/
theorem rd_i3 (i x : Nat) : (3 : Int32) * nI i + nI x = nI (i * 3 + x) := by
  show nI 3 * nI i + nI x = _
  rw [pk_mul, nI_add, Nat.mul_comm]
theorem rd_i3' (i x : Nat) : nI i * (3 : Int32) + nI x = nI (i * 3 + x) := by
  show nI i * nI 3 + nI x = _
  rw [pk_mul, nI_add]
theorem rd_i9 (i j x y : Nat) : ((9 * ((6 * nI i) + nI j)) + (3 * nI x)) + nI y = nI ((i * 6 + j) * 9 + x * 3 + y) := by
  show ((nI 9 * ((nI 6 * nI i) + nI j)) + (nI 3 * nI x)) + nI y = _
  simp only [pk_mul, nI_add]
  exact congrArg nI (by omega)
theorem rd_lt3 {i x : Nat} (hi : i < 6) (hx : x < 3) : i * 3 + x < 18 := by omega
theorem rd_lt324 {i j x y : Nat} (hi : i < 6) (hj : j < 6) (hx : x < 3) (hy : y < 3) : (i * 6 + j) * 9 + x * 3 + y < 324 := by omega
section
variable {a_owns a_pairs : Nat → Int32}
theorem rd_dig5 {post : Int32 → Prop} {m i : Nat} (hi : i ≤ 5) (hm : m < 2 ^ 31) (h : post (nI (rd_dg m i))) : ∀ (d j n : Nat), j = i + d → j ≤ 5 → d < n → wY_digit_5 post (nI i) a_owns a_pairs n (nI (m / 3 ^ (5 - j))) (nI j) := by
  intro d
  induction d with
  | zero =>
    intro j n hj hj5 hn
    obtain ⟨n, rfl⟩ : ∃ n', n = n' + 1 := ⟨n - 1, by omega⟩
    have e : j = i := by omega
    subst e
    have hd : m / 3 ^ (5 - j) < 2 ^ 31 := Nat.lt_of_le_of_lt (Nat.div_le_self _ _) hm
    have e2 : nI (m / 3 ^ (5 - j)) - nI (m / 3 ^ (5 - j)) / 3 * 3 = nI (rd_dg m j) := pk_rem (d := 3) hd (by decide) (by decide)
    refine br_t (nI_le (Nat.le_refl _) (by omega)) (And.intro (by decide) ?_)
    rw [e2]
    exact h
  | succ d ih =>
    intro j n hj hj5 hn
    obtain ⟨n, rfl⟩ : ∃ n', n = n' + 1 := ⟨n - 1, by omega⟩
    obtain ⟨j, rfl⟩ : ∃ j', j = j' + 1 := ⟨j - 1, by omega⟩
    have hd : m / 3 ^ (5 - (j + 1)) < 2 ^ 31 := Nat.lt_of_le_of_lt (Nat.div_le_self _ _) hm
    have e2 : nI (m / 3 ^ (5 - (j + 1))) / 3 = nI (m / 3 ^ (5 - j)) := by
      refine (pk_div (d := 3) hd (by decide) (by decide)).trans (congrArg nI ?_)
      rw [Nat.div_div_eq_div_mul, ← Nat.pow_succ, show (5 - (j + 1)).succ = 5 - j from by omega]
    refine br_f (nI_ge (by omega) (by omega)) (And.intro (by decide) (fun y3 h3 y4 h4 => ?_))
    rw [h3, h4, e2, pk_m1]
    exact ih j n (by omega) (by omega) (by omega)
theorem rd_dig {post : Int32 → Prop} {m i : Nat} (hi : i ≤ 5) (hm : m < 2 ^ 31) (h : post (nI (rd_dg m i))) : wpY_digit post (a_owns, a_pairs) (nI m) (nI i) := by
  have h1 := rd_dig5 (a_owns := a_owns) (a_pairs := a_pairs) hi hm h (5 - i) 5 6 (by omega) (by omega) (by omega)
  rw [show m / 3 ^ (5 - 5) = m from Nat.div_one m] at h1
  exact Exists.intro 6 h1
theorem rd_isB {post : Int32 → Prop} {c b : Nat} (hb : b ≤ 100000) (ht : c < b → post 1) (hf : ¬ c < b → post 0) : wpY_isBetter post (a_owns, a_pairs) (rd_v c) (rd_v b) := by
  by_cases hc : c < 100000
  · rw [rd_v_t hc]
    refine br_f (rd_nI_m4 (by omega)) ?_
    by_cases hb2 : b < 100000
    · rw [rd_v_t hb2]
      exact br_f (rd_nI_m4 (by omega)) (pk_le b c (fun h => hf (by omega)) (fun h => ht h))
    · rw [rd_v_f hb2]
      exact br_t rfl (ht (by omega))
  · rw [rd_v_f hc]
    exact br_t rfl (hf (by omega))
variable {ow pr : Nat → Nat}
theorem rd_cost62 {post : Int32 → Prop} {J : Int32 → Int32 → Prop} {m i x : Nat} (hp : ∀ j, a_pairs j = nI (pr j)) (hpk : ∀ j, rd_ok (pr j)) (hi : i < 6) (hx : x < 3) (hm : m < 2 ^ 31) : ∀ (n j fuel acc : Nat), j + n = 6 → n < fuel → (100000 ≤ rd_s (fun j => rd_P false pr i j x (rd_dg m j)) j n → post (-4)) → (rd_s (fun j => rd_P false pr i j x (rd_dg m j)) j n ≤ 30 * n → J (nI (acc + rd_s (fun j => rd_P false pr i j x (rd_dg m j)) j n)) (nI (i + 1))) → wY_cost_62 post J (nI m) (nI i) (nI x) a_owns a_pairs fuel (nI acc) (nI j) := by
  intro n
  induction n with
  | zero =>
    intro j fuel acc hj hf hb hJ
    obtain ⟨fuel, rfl⟩ : ∃ n', fuel = n' + 1 := ⟨fuel - 1, by omega⟩
    refine br_t (nI_le (a := 6) (by omega) (by omega)) (fun y hy => ?_)
    rw [hy, nI_1]
    exact hJ (Nat.le_refl _)
  | succ n ih =>
    intro j fuel acc hj hf hb hJ
    obtain ⟨fuel, rfl⟩ : ∃ n', fuel = n' + 1 := ⟨fuel - 1, by omega⟩
    have hq := rd_dg_lt m j
    have hl : (i * 6 + j) * 9 + x * 3 + rd_dg m j < 324 := rd_lt324 hi (by omega) hx hq
    have eI : (((9 * ((6 * nI i) + nI j)) + (3 * nI x)) + nI (rd_dg m j)).toNatClampNeg = (i * 6 + j) * 9 + x * 3 + rd_dg m j := pk_cl _ (rd_i9 i j x (rd_dg m j)) (by omega)
    have es : rd_s (fun j => rd_P false pr i j x (rd_dg m j)) j (n + 1) = rd_P false pr i j x (rd_dg m j) + rd_s (fun j => rd_P false pr i j x (rd_dg m j)) (j + 1) n := rfl
    rw [es] at hb hJ
    rw [rd_P_0] at hb hJ
    refine br_f (nI_ge (b := 6) (by omega) (by decide)) (rd_dig (by omega) hm ?_)
    refine And.intro (pk_in _ _ hl (rd_i9 i j x (rd_dg m j))) (fun y8 h8 => ?_)
    rw [eI, hp] at h8
    subst h8
    have ok := hpk ((i * 6 + j) * 9 + x * 3 + rd_dg m j)
    unfold rd_ok at ok
    generalize pr ((i * 6 + j) * 9 + x * 3 + rd_dg m j) = c at ok hb hJ ⊢
    refine pk_eq c 99 (fun e => ?_) (fun e y3 h3 y6 h6 => ?_)
    · refine hb ?_
      rw [show rd_rl c = 100000 from if_pos e]
      omega
    · rw [show rd_rl c = c from if_neg e] at hb hJ
      rw [h3, h6, nI_add, nI_1]
      refine ih (j + 1) fuel (acc + c) (by omega) (by omega) (fun h => hb (by omega)) (fun h => ?_)
      rw [Nat.add_assoc]
      exact hJ (by omega)
theorem rd_cost5 {post : Int32 → Prop} {m : Nat} (ho : ∀ j, a_owns j = nI (ow j)) (hok : ∀ j, rd_ok (ow j)) (hp : ∀ j, a_pairs j = nI (pr j)) (hpk : ∀ j, rd_ok (pr j)) (hm : m < 2 ^ 31) : ∀ (n i fuel acc : Nat), i + n = 6 → n < fuel → acc + 200 * n ≤ 1200 → post (rd_v (acc + rd_C (rd_O ow) (rd_P false pr) m i n)) → wY_cost_5 post (nI m) a_owns a_pairs fuel (nI acc) (nI i) := by
  intro n
  induction n with
  | zero =>
    intro i fuel acc hi hf ha h
    obtain ⟨fuel, rfl⟩ : ∃ n', fuel = n' + 1 := ⟨fuel - 1, by omega⟩
    refine br_t (nI_le (a := 6) (by omega) (by omega)) ?_
    have e : rd_v (acc + rd_C (rd_O ow) (rd_P false pr) m i 0) = nI acc := rd_v_t (c := acc) (by omega)
    rw [e] at h
    exact h
  | succ n ih =>
    intro i fuel acc hi hf ha h
    obtain ⟨fuel, rfl⟩ : ∃ n', fuel = n' + 1 := ⟨fuel - 1, by omega⟩
    have hq := rd_dg_lt m i
    have hl : i * 3 + rd_dg m i < 18 := rd_lt3 (by omega) hq
    have eI : ((3 * nI i) + nI (rd_dg m i)).toNatClampNeg = i * 3 + rd_dg m i := pk_cl _ (rd_i3 i (rd_dg m i)) (by omega)
    have eC : rd_C (rd_O ow) (rd_P false pr) m i (n + 1) = rd_rl (ow (i * 3 + rd_dg m i)) + rd_s (fun j => rd_P false pr i j (rd_dg m i) (rd_dg m j)) (i + 1) n + rd_C (rd_O ow) (rd_P false pr) m (i + 1) n := rfl
    rw [eC] at h
    have hin : vp_in ((3 * nI i) + nI (rd_dg m i)) 18 := pk_in _ _ hl (rd_i3 i (rd_dg m i))
    refine br_f (nI_ge (b := 6) (by omega) (by decide)) (rd_dig (by omega) hm ?_)
    refine And.intro hin ?_
    rw [eI, ho]
    have ok := hok (i * 3 + rd_dg m i)
    unfold rd_ok at ok
    generalize ow (i * 3 + rd_dg m i) = c at ok h ⊢
    refine pk_eq c 99 (fun e => ?_) (fun e => And.intro hin (fun y3 h3 y6 h6 => ?_))
    · rw [show rd_rl c = 100000 from if_pos e, rd_v_f (by omega)] at h
      exact h
    · rw [show rd_rl c = c from if_neg e] at h
      rw [h3, h6, nI_add, nI_1]
      refine Exists.intro (n + 1) (rd_cost62 hp hpk (by omega) hq hm n (i + 1) (n + 1) (acc + c) (by omega) (by omega) (fun hb => ?_) (fun hJ => ?_))
      · rw [rd_v_f (by omega)] at h
        exact h
      · refine ih (i + 1) fuel _ (by omega) (by omega) (by omega) ?_
        rw [show acc + c + rd_s (fun j => rd_P false pr i j (rd_dg m i) (rd_dg m j)) (i + 1) n + rd_C (rd_O ow) (rd_P false pr) m (i + 1) n = acc + (c + rd_s (fun j => rd_P false pr i j (rd_dg m i) (rd_dg m j)) (i + 1) n + rd_C (rd_O ow) (rd_P false pr) m (i + 1) n) from by omega]
        exact h
end
/-- the cost of the variables from i on, capped -/
def rd_c (ow pr : Nat → Nat) (i m : Nat) : Nat := rd_C (rd_O ow) (rd_P false pr) m i (6 - i)
/-- arrays of costs -/
def rd_N (a : Nat → Int32) (j : Nat) : Nat := (a j).toNatClampNeg
def rd_Ok (a : Nat → Int32) : Prop := ∀ j, ∃ c : Nat, rd_ok c ∧ a j = nI c
theorem rd_Ok_N {a : Nat → Int32} (h : rd_Ok a) (j : Nat) : rd_ok (rd_N a j) ∧ a j = nI (rd_N a j) := by
  obtain ⟨c, h1, h2⟩ := h j
  have e : rd_N a j = c := by
    unfold rd_N
    rw [h2]
    exact nI_clamp (by unfold rd_ok at h1; omega)
  rw [e]
  exact ⟨h1, h2⟩
section
variable {a_owns a_pairs : Nat → Int32} {ow pr : Nat → Nat}
theorem rd_Ycost {post : Int32 → Prop} {m i : Nat} (ho : ∀ j, a_owns j = nI (ow j)) (hok : ∀ j, rd_ok (ow j)) (hp : ∀ j, a_pairs j = nI (pr j)) (hpk : ∀ j, rd_ok (pr j)) (hm : m < 2 ^ 31) (hi : i < 6) (h : post (rd_v (rd_cp (rd_c ow pr i m)))) : wpY_cost post (a_owns, a_pairs) (nI m) (nI i) := by
  rw [rd_v_cp] at h
  refine Exists.intro 7 (rd_cost5 ho hok hp hpk hm (6 - i) i 7 0 (by omega) (by omega) (by omega) ?_)
  rw [Nat.zero_add]
  exact h
theorem rd_isVar_t {post : Int32 → Prop} {i : Nat} (hi : i < 6) (h : post 1) : wpY_isVariable post (a_owns, a_pairs) (nI i) :=
  br_f (nI_pos (by omega)) (br_f (nI_nlt (b := i) (a := 5) (by omega) (by decide)) h)
theorem rd_isVar_f {post : Int32 → Prop} {v : Int32} (hv : v < 0 ∨ nI 6 ≤ v) (h : post 0) : wpY_isVariable post (a_owns, a_pairs) v := by
  by_cases h0 : v < 0
  · exact br_t h0 h
  · refine br_f h0 (br_t ?_ h)
    obtain ⟨j, hj, rfl⟩ := nI_of h0
    rcases hv with hv | hv
    · exact absurd hv h0
    · rw [nI_leI (by decide) hj] at hv
      exact nI_lt (a := 5) (by omega) hj
theorem rd_isVal_t {post : Int32 → Prop} {i : Nat} (hi : i < 3) (h : post 1) : wpY_isValue post (a_owns, a_pairs) (nI i) :=
  br_f (nI_pos (by omega)) (br_f (nI_nlt (b := i) (a := 2) (by omega) (by decide)) h)
theorem rd_isVal_f {post : Int32 → Prop} {v : Int32} (hv : v < 0 ∨ nI 3 ≤ v) (h : post 0) : wpY_isValue post (a_owns, a_pairs) v := by
  by_cases h0 : v < 0
  · exact br_t h0 h
  · refine br_f h0 (br_t ?_ h)
    obtain ⟨j, hj, rfl⟩ := nI_of h0
    rcases hv with hv | hv
    · exact absurd hv h0
    · rw [nI_leI (by decide) hj] at hv
      exact nI_lt (a := 2) (by omega) hj
end
end
section
/-! the reference's loops over the assignments -/
/-- the code kept by a fold -/
def rd_w (w : Nat × Nat) : Int32 := if w.1 < 100000 then nI w.2 else -4
theorem rd_w_t {w : Nat × Nat} (h : w.1 < 100000) : rd_w w = nI w.2 := if_pos h
theorem rd_w_f {w : Nat × Nat} (h : ¬ w.1 < 100000) : rd_w w = -4 := if_neg h
theorem rd_v_0 : rd_v ((100000, 0) : Nat × Nat).1 = -4 := rd_v_f (by decide)
theorem rd_w_0 : rd_w ((100000, 0) : Nat × Nat) = -4 := rd_w_f (by decide)
section
variable {a_owns a_pairs : Nat → Int32} {ow pr : Nat → Nat} {post : Int32 → Prop}
theorem rd_doll36 {i N : Nat} (ho : ∀ j, a_owns j = nI (ow j)) (hok : ∀ j, rd_ok (ow j)) (hp : ∀ j, a_pairs j = nI (pr j)) (hpk : ∀ j, rd_ok (pr j)) (hi : i < 6) (hN : N < 2 ^ 31) : ∀ (n lo fuel : Nat) (w : Nat × Nat), lo + n = N → n < fuel → w.1 ≤ 100000 → post (rd_v (rd_f (fun m => rd_cp (rd_c ow pr i m)) lo n w).1) → wY_doll_36 post (nI i) (nI N) a_owns a_pairs fuel (rd_v w.1) (nI lo) := by
  intro n
  induction n with
  | zero =>
    intro lo fuel w hl hf hw h
    obtain ⟨fuel, rfl⟩ : ∃ n', fuel = n' + 1 := ⟨fuel - 1, by omega⟩
    exact br_t (nI_le (by omega) (by omega)) h
  | succ n ih =>
    intro lo fuel w hl hf hw h
    obtain ⟨fuel, rfl⟩ : ∃ n', fuel = n' + 1 := ⟨fuel - 1, by omega⟩
    have h' : post (rd_v (rd_f (fun m => rd_cp (rd_c ow pr i m)) (lo + 1) n (rd_st (fun m => rd_cp (rd_c ow pr i m)) lo w)).1) := h
    refine br_f (nI_ge (by omega) hN) (rd_Ycost ho hok hp hpk (by omega) hi (rd_isB hw (fun ht => br_f (by decide) (fun y hy => ?_)) (fun hn => br_t rfl (fun y hy => ?_))))
    · rw [hy, nI_1]
      rw [rd_st_t (g := fun m => rd_cp (rd_c ow pr i m)) (m := lo) (w := w) ht] at h'
      exact ih (lo + 1) fuel (rd_cp (rd_c ow pr i lo), lo) (by omega) (by omega) (rd_cp_le _) h'
    · rw [hy, nI_1]
      rw [rd_st_f (g := fun m => rd_cp (rd_c ow pr i m)) (m := lo) (w := w) hn] at h'
      exact ih (lo + 1) fuel w (by omega) (by omega) hw h'
theorem rd_doll14 {i : Nat} : ∀ (n j a fuel : Nat), j + n = 6 → n < fuel → (∃ n36 : Nat, wY_doll_36 post (nI i) (nI (a * 3 ^ n)) a_owns a_pairs n36 (-4) 0) → wY_doll_14 post (nI i) a_owns a_pairs fuel (nI a) (nI j) := by
  intro n
  induction n with
  | zero =>
    intro j a fuel hj hf h
    obtain ⟨fuel, rfl⟩ : ∃ n', fuel = n' + 1 := ⟨fuel - 1, by omega⟩
    rw [show a * 3 ^ 0 = a from Nat.mul_one a] at h
    exact br_t (nI_le (a := 6) (by omega) (by omega)) h
  | succ n ih =>
    intro j a fuel hj hf h
    obtain ⟨fuel, rfl⟩ : ∃ n', fuel = n' + 1 := ⟨fuel - 1, by omega⟩
    refine br_f (nI_ge (b := 6) (by omega) (by decide)) (fun y2 h2 y3 h3 => ?_)
    have e : 3 * nI a = nI (3 * a) := pk_mul 3 a
    rw [h2, h3, e, nI_1]
    refine ih (j + 1) (3 * a) fuel (by omega) (by omega) ?_
    rw [show 3 * a * 3 ^ n = a * 3 ^ (n + 1) from by rw [Nat.pow_succ, Nat.mul_comm 3 a, Nat.mul_assoc, Nat.mul_comm 3]]
    exact h
/-- the least cost of the variables from i on, and the first that has it -/
noncomputable def rd_D (ow pr : Nat → Nat) (i : Nat) : Nat × Nat := rd_F (fun m => rd_cp (rd_c ow pr i m)) (3 ^ (6 - i))
theorem rd_Ydoll {i : Nat} (ho : ∀ j, a_owns j = nI (ow j)) (hok : ∀ j, rd_ok (ow j)) (hp : ∀ j, a_pairs j = nI (pr j)) (hpk : ∀ j, rd_ok (pr j)) (hi : i < 6) (h : post (rd_v (rd_D ow pr i).1)) : wpY_doll post (a_owns, a_pairs) (nI i) := by
  have hN : 3 ^ (6 - i) ≤ 3 ^ 6 := Nat.pow_le_pow_right (by decide) (by omega)
  have h36 := rd_doll36 (post := post) ho hok hp hpk hi (N := 3 ^ (6 - i)) (Nat.lt_of_le_of_lt hN (by decide)) (3 ^ (6 - i)) 0 (3 ^ (6 - i) + 1) (100000, 0) (Nat.zero_add _) (Nat.lt_succ_self _) (by decide) h
  rw [rd_v_0] at h36
  unfold wpY_doll
  dsimp only
  refine rd_isVar_t hi (br_f (by decide) (Exists.intro 7 (rd_doll14 (6 - i) i 1 7 (by omega) (by omega) ?_)))
  rw [Nat.one_mul]
  exact Exists.intro _ h36
theorem rd_first8 (ho : ∀ j, a_owns j = nI (ow j)) (hok : ∀ j, rd_ok (ow j)) (hp : ∀ j, a_pairs j = nI (pr j)) (hpk : ∀ j, rd_ok (pr j)) : ∀ (n lo fuel : Nat) (w : Nat × Nat), lo + n = 729 → n < fuel → w.1 ≤ 100000 → post (rd_w (rd_f (fun m => rd_cp (rd_c ow pr 0 m)) lo n w)) → wY_first_8 post a_owns a_pairs fuel (rd_v w.1) (rd_w w) (nI lo) := by
  intro n
  induction n with
  | zero =>
    intro lo fuel w hl hf hw h
    obtain ⟨fuel, rfl⟩ : ∃ n', fuel = n' + 1 := ⟨fuel - 1, by omega⟩
    exact br_t (nI_le (a := 729) (by omega) (by omega)) h
  | succ n ih =>
    intro lo fuel w hl hf hw h
    obtain ⟨fuel, rfl⟩ : ∃ n', fuel = n' + 1 := ⟨fuel - 1, by omega⟩
    have h' : post (rd_w (rd_f (fun m => rd_cp (rd_c ow pr 0 m)) (lo + 1) n (rd_st (fun m => rd_cp (rd_c ow pr 0 m)) lo w))) := h
    refine br_f (nI_ge (b := 729) (by omega) (by decide)) (rd_Ycost (i := 0) ho hok hp hpk (by omega) (by decide) (rd_isB hw (fun ht => br_f (by decide) (fun y hy => ?_)) (fun hn => br_t rfl (fun y hy => ?_))))
    · rw [hy, nI_1]
      rw [rd_st_t (g := fun m => rd_cp (rd_c ow pr 0 m)) (m := lo) (w := w) ht] at h'
      have e := ih (lo + 1) fuel (rd_cp (rd_c ow pr 0 lo), lo) (by omega) (by omega) (rd_cp_le _) h'
      rw [rd_w_t (w := (rd_cp (rd_c ow pr 0 lo), lo)) (show rd_cp (rd_c ow pr 0 lo) < 100000 by omega)] at e
      exact e
    · rw [hy, nI_1]
      rw [rd_st_f (g := fun m => rd_cp (rd_c ow pr 0 m)) (m := lo) (w := w) hn] at h'
      exact ih (lo + 1) fuel w (by omega) (by omega) hw h'
theorem rd_Yfirst (ho : ∀ j, a_owns j = nI (ow j)) (hok : ∀ j, rd_ok (ow j)) (hp : ∀ j, a_pairs j = nI (pr j)) (hpk : ∀ j, rd_ok (pr j)) (h : post (rd_w (rd_D ow pr 0))) : wpY_first post (a_owns, a_pairs) := by
  have h8 := rd_first8 (post := post) ho hok hp hpk 729 0 730 (100000, 0) (by omega) (by omega) (by decide) h
  rw [rd_v_0, rd_w_0] at h8
  exact Exists.intro _ h8
theorem rd_with24 {i x : Nat} (ho : ∀ j, a_owns j = nI (ow j)) (hok : ∀ j, rd_ok (ow j)) (hp : ∀ j, a_pairs j = nI (pr j)) (hpk : ∀ j, rd_ok (pr j)) (hi : i < 6) (hx : x < 3) : ∀ (n lo fuel : Nat) (w : Nat × Nat), lo + n = 729 → n < fuel → w.1 ≤ 100000 → post (rd_v (rd_f (rd_g (fun m => rd_dg m i = x) (rd_c ow pr 0)) lo n w).1) → wY_with_24 post (nI i) (nI x) a_owns a_pairs fuel (rd_v w.1) (nI lo) := by
  intro n
  induction n with
  | zero =>
    intro lo fuel w hl hf hw h
    obtain ⟨fuel, rfl⟩ : ∃ n', fuel = n' + 1 := ⟨fuel - 1, by omega⟩
    exact br_t (nI_le (a := 729) (by omega) (by omega)) h
  | succ n ih =>
    intro lo fuel w hl hf hw h
    obtain ⟨fuel, rfl⟩ : ∃ n', fuel = n' + 1 := ⟨fuel - 1, by omega⟩
    have h' : post (rd_v (rd_f (rd_g (fun m => rd_dg m i = x) (rd_c ow pr 0)) (lo + 1) n (rd_st (rd_g (fun m => rd_dg m i = x) (rd_c ow pr 0)) lo w)).1) := h
    have hd := rd_dg_lt lo i
    refine br_f (nI_ge (b := 729) (by omega) (by decide)) (rd_dig (by omega) (by omega) (pk_eq (rd_dg lo i) x (fun e => ?_) (fun e y hy => ?_)))
    · have eg : rd_g (fun m => rd_dg m i = x) (rd_c ow pr 0) lo = rd_cp (rd_c ow pr 0 lo) := rd_g_t (q := fun m => rd_dg m i = x) e
      refine rd_Ycost (i := 0) ho hok hp hpk (by omega) (by decide) (rd_isB hw (fun ht => br_f (by decide) (fun y hy => ?_)) (fun hn => br_t rfl (fun y hy => ?_)))
      · rw [hy, nI_1]
        rw [rd_st_t (m := lo) (w := w) (by rw [eg]; exact ht), eg] at h'
        exact ih (lo + 1) fuel (rd_cp (rd_c ow pr 0 lo), lo) (by omega) (by omega) (rd_cp_le _) h'
      · rw [hy, nI_1]
        rw [rd_st_f (m := lo) (w := w) (by rw [eg]; exact hn)] at h'
        exact ih (lo + 1) fuel w (by omega) (by omega) hw h'
    · have eg : rd_g (fun m => rd_dg m i = x) (rd_c ow pr 0) lo = 100000 := rd_g_f (q := fun m => rd_dg m i = x) e
      rw [hy, nI_1]
      rw [rd_st_f (m := lo) (w := w) (by rw [eg]; omega)] at h'
      exact ih (lo + 1) fuel w (by omega) (by omega) hw h'
noncomputable def rd_W (ow pr : Nat → Nat) (i x : Nat) : Nat := (rd_F (rd_g (fun m => rd_dg m i = x) (rd_c ow pr 0)) 729).1
theorem rd_Ywith {i x : Nat} (ho : ∀ j, a_owns j = nI (ow j)) (hok : ∀ j, rd_ok (ow j)) (hp : ∀ j, a_pairs j = nI (pr j)) (hpk : ∀ j, rd_ok (pr j)) (hi : i < 6) (hx : x < 3) (h : post (rd_v (rd_W ow pr i x))) : wpY_with post (a_owns, a_pairs) (nI i) (nI x) := by
  have h8 := rd_with24 (post := post) ho hok hp hpk hi hx 729 0 730 (100000, 0) (by omega) (by omega) (by decide) h
  rw [rd_v_0] at h8
  unfold wpY_with
  dsimp only
  exact rd_isVar_t hi (br_f (by decide) (rd_isVal_t hx (br_f (by decide) (Exists.intro _ h8))))
theorem rd_second10 {F : Int32} (ho : ∀ j, a_owns j = nI (ow j)) (hok : ∀ j, rd_ok (ow j)) (hp : ∀ j, a_pairs j = nI (pr j)) (hpk : ∀ j, rd_ok (pr j)) : ∀ (n lo fuel : Nat) (w : Nat × Nat), lo + n = 729 → n < fuel → w.1 ≤ 100000 → post (rd_v (rd_f (rd_g (fun m => ¬ nI m = F) (rd_c ow pr 0)) lo n w).1) → wY_second_10 post F a_owns a_pairs fuel (rd_v w.1) (nI lo) := by
  intro n
  induction n with
  | zero =>
    intro lo fuel w hl hf hw h
    obtain ⟨fuel, rfl⟩ : ∃ n', fuel = n' + 1 := ⟨fuel - 1, by omega⟩
    exact br_t (nI_le (a := 729) (by omega) (by omega)) h
  | succ n ih =>
    intro lo fuel w hl hf hw h
    obtain ⟨fuel, rfl⟩ : ∃ n', fuel = n' + 1 := ⟨fuel - 1, by omega⟩
    have h' : post (rd_v (rd_f (rd_g (fun m => ¬ nI m = F) (rd_c ow pr 0)) (lo + 1) n (rd_st (rd_g (fun m => ¬ nI m = F) (rd_c ow pr 0)) lo w)).1) := h
    refine br_f (nI_ge (b := 729) (by omega) (by decide)) (br_c (fun e y hy => ?_) (fun e => ?_))
    · have eg : rd_g (fun m => ¬ nI m = F) (rd_c ow pr 0) lo = 100000 := rd_g_f (q := fun m => ¬ nI m = F) (fun z => z e)
      rw [hy, nI_1]
      rw [rd_st_f (m := lo) (w := w) (by rw [eg]; omega)] at h'
      exact ih (lo + 1) fuel w (by omega) (by omega) hw h'
    · have eg : rd_g (fun m => ¬ nI m = F) (rd_c ow pr 0) lo = rd_cp (rd_c ow pr 0 lo) := rd_g_t (q := fun m => ¬ nI m = F) e
      refine rd_Ycost (i := 0) ho hok hp hpk (by omega) (by decide) (rd_isB hw (fun ht => br_f (by decide) (fun y hy => ?_)) (fun hn => br_t rfl (fun y hy => ?_)))
      · rw [hy, nI_1]
        rw [rd_st_t (m := lo) (w := w) (by rw [eg]; exact ht), eg] at h'
        exact ih (lo + 1) fuel (rd_cp (rd_c ow pr 0 lo), lo) (by omega) (by omega) (rd_cp_le _) h'
      · rw [hy, nI_1]
        rw [rd_st_f (m := lo) (w := w) (by rw [eg]; exact hn)] at h'
        exact ih (lo + 1) fuel w (by omega) (by omega) hw h'
noncomputable def rd_2 (ow pr : Nat → Nat) : Nat := (rd_F (rd_g (fun m => ¬ nI m = rd_w (rd_D ow pr 0)) (rd_c ow pr 0)) 729).1
theorem rd_Ysecond (ho : ∀ j, a_owns j = nI (ow j)) (hok : ∀ j, rd_ok (ow j)) (hp : ∀ j, a_pairs j = nI (pr j)) (hpk : ∀ j, rd_ok (pr j)) (h : post (rd_v (rd_2 ow pr))) : wpY_second post (a_owns, a_pairs) := by
  have h8 := rd_second10 (F := rd_w (rd_D ow pr 0)) (post := post) ho hok hp hpk 729 0 730 (100000, 0) (by omega) (by omega) (by decide) h
  rw [rd_v_0] at h8
  exact rd_Yfirst ho hok hp hpk (Exists.intro _ h8)
theorem rd_zig2 {m : Nat} (hm : m < 2 ^ 31) : ∀ (n i fuel : Nat), i + n = 5 → n < fuel → (rd_zz m i n → post 1) → (¬ rd_zz m i n → post 0) → wY_isZigzag_2 post (nI m) a_owns a_pairs fuel (nI i) := by
  intro n
  induction n with
  | zero =>
    intro i fuel hi hf h1 _
    obtain ⟨fuel, rfl⟩ : ∃ n', fuel = n' + 1 := ⟨fuel - 1, by omega⟩
    exact br_t (nI_le (a := 5) (by omega) (by omega)) (h1 (fun j a b => absurd b (by omega)))
  | succ n ih =>
    intro i fuel hi hf h1 h0
    obtain ⟨fuel, rfl⟩ : ∃ n', fuel = n' + 1 := ⟨fuel - 1, by omega⟩
    have d1 := rd_dg_lt m i
    have d2 := rd_dg_lt m (i + 1)
    refine br_f (nI_ge (b := 5) (by omega) (by decide)) (rd_dig (by omega) hm ?_)
    rw [nI_1]
    refine rd_dig (by omega) hm (pk_eq (rd_dg m i) (rd_dg m (i + 1)) (fun e => ?_) (fun e y hy => ?_))
    · exact h0 (fun z => z i (by omega) (by omega) e)
    · rw [hy]
      refine ih (i + 1) fuel (by omega) (by omega) (fun z => h1 ?_) (fun z => h0 (fun q => z (fun j a b => q j (by omega) (by omega))))
      intro j a b
      by_cases hj : j = i
      · rw [hj]; exact e
      · exact z j (by omega) (by omega)
theorem rd_zig5 (ho : ∀ j, a_owns j = nI (ow j)) (hok : ∀ j, rd_ok (ow j)) (hp : ∀ j, a_pairs j = nI (pr j)) (hpk : ∀ j, rd_ok (pr j)) : ∀ (n lo fuel : Nat) (w : Nat × Nat), lo + n = 729 → n < fuel → w.1 ≤ 100000 → post (rd_v (rd_f (rd_g (fun m => rd_zz m 0 5) (rd_c ow pr 0)) lo n w).1) → wY_zigzag_5 post a_owns a_pairs fuel (rd_v w.1) (nI lo) := by
  intro n
  induction n with
  | zero =>
    intro lo fuel w hl hf hw h
    obtain ⟨fuel, rfl⟩ : ∃ n', fuel = n' + 1 := ⟨fuel - 1, by omega⟩
    exact br_t (nI_le (a := 729) (by omega) (by omega)) h
  | succ n ih =>
    intro lo fuel w hl hf hw h
    obtain ⟨fuel, rfl⟩ : ∃ n', fuel = n' + 1 := ⟨fuel - 1, by omega⟩
    have h' : post (rd_v (rd_f (rd_g (fun m => rd_zz m 0 5) (rd_c ow pr 0)) (lo + 1) n (rd_st (rd_g (fun m => rd_zz m 0 5) (rd_c ow pr 0)) lo w)).1) := h
    refine br_f (nI_ge (b := 729) (by omega) (by decide)) (Exists.intro 6 (rd_zig2 (by omega) 5 0 6 (by omega) (by omega) (fun e => br_f (by decide) ?_) (fun e => br_t rfl (fun y hy => ?_))))
    · have eg : rd_g (fun m => rd_zz m 0 5) (rd_c ow pr 0) lo = rd_cp (rd_c ow pr 0 lo) := rd_g_t (q := fun m => rd_zz m 0 5) e
      refine rd_Ycost (i := 0) ho hok hp hpk (by omega) (by decide) (rd_isB hw (fun ht => br_f (by decide) (fun y hy => ?_)) (fun hn => br_t rfl (fun y hy => ?_)))
      · rw [hy, nI_1]
        rw [rd_st_t (m := lo) (w := w) (by rw [eg]; exact ht), eg] at h'
        exact ih (lo + 1) fuel (rd_cp (rd_c ow pr 0 lo), lo) (by omega) (by omega) (rd_cp_le _) h'
      · rw [hy, nI_1]
        rw [rd_st_f (m := lo) (w := w) (by rw [eg]; exact hn)] at h'
        exact ih (lo + 1) fuel w (by omega) (by omega) hw h'
    · have eg : rd_g (fun m => rd_zz m 0 5) (rd_c ow pr 0) lo = 100000 := rd_g_f (q := fun m => rd_zz m 0 5) e
      rw [hy, nI_1]
      rw [rd_st_f (m := lo) (w := w) (by rw [eg]; omega)] at h'
      exact ih (lo + 1) fuel w (by omega) (by omega) hw h'
noncomputable def rd_Z (ow pr : Nat → Nat) : Nat := (rd_F (rd_g (fun m => rd_zz m 0 5) (rd_c ow pr 0)) 729).1
theorem rd_Yzigzag (ho : ∀ j, a_owns j = nI (ow j)) (hok : ∀ j, rd_ok (ow j)) (hp : ∀ j, a_pairs j = nI (pr j)) (hpk : ∀ j, rd_ok (pr j)) (h : post (rd_v (rd_Z ow pr))) : wpY_zigzag post (a_owns, a_pairs) := by
  have h8 := rd_zig5 (post := post) ho hok hp hpk 729 0 730 (100000, 0) (by omega) (by omega) (by decide) h
  rw [rd_v_0] at h8
  exact Exists.intro _ h8
end
end
section
/-! the component's small methods -/
def rd_b (df : Bool) : Int32 := if df = true then 1 else 0
theorem rd_bit : ∀ a, a < 8 → ∀ y, y < 3 → ((nI a >>> (nI y &&& 31)) &&& 1) = nI (a / 2 ^ y % 2) := by decide +kernel
theorem rd_i9' (k j x y : Nat) : ((((nI k * 6) + nI j) * 9) + (nI x * 3)) + nI y = nI ((k * 6 + j) * 9 + x * 3 + y) := by
  show ((((nI k * nI 6) + nI j) * nI 9) + (nI x * nI 3)) + nI y = _
  simp only [pk_mul, nI_add]
theorem rd_iA (k j y : Nat) : (((nI k * 6) + nI j) * 3) + nI y = nI ((k * 6 + j) * 3 + y) := by
  show (((nI k * nI 6) + nI j) * nI 3) + nI y = _
  simp only [pk_mul, nI_add]
theorem rd_iB (k j y : Nat) : ((((nI k + 1) * 6) + nI j) * 3) + nI y = nI (((k + 1) * 6 + j) * 3 + y) := by
  rw [nI_1]
  exact rd_iA (k + 1) j y
theorem rd_real {post : Int32 → Prop} {u : SX} {z : Int32} (c : Nat) (hz : z = nI c) (hc : rd_ok c) (h : post (nI (rd_rl c))) : wpX_real post u z := by
  obtain ⟨fs, fd, fb, oc, pc, dl, al, ch, sp, ah, bv, fi⟩ := u
  subst hz
  have hc' : c ≤ 99 := by unfold rd_ok at hc; omega
  refine pk_eq c 99 (fun e => ?_) (fun e => ?_)
  · rw [show rd_rl c = 100000 from if_pos e] at h; exact h
  · rw [show rd_rl c = c from if_neg e] at h; exact h
theorem rd_capped {post : Int32 → Prop} {u : SX} {z : Int32} (x : Nat) (hz : z = nI x) (hx : x < 2 ^ 31) (h : post (nI (rd_cp x))) : wpX_capped post u z := by
  obtain ⟨fs, fd, fb, oc, pc, dl, al, ch, sp, ah, bv, fi⟩ := u
  subst hz
  refine pk_le x 100000 (fun e => ?_) (fun e => ?_)
  · rw [show rd_cp x = x from if_pos e] at h; exact h
  · rw [show rd_cp x = 100000 from if_neg (by omega)] at h; exact h
theorem rd_answer {post : Int32 → Prop} {u : SX} (c : Nat) (hx : c < 2 ^ 31) (h : post (rd_v c)) : wpX_answer post u (nI c) := by
  obtain ⟨fs, fd, fb, oc, pc, dl, al, ch, sp, ah, bv, fi⟩ := u
  refine pk_lt c 100000 (fun e => ?_) (fun e => ?_)
  · rw [rd_v_t e] at h; exact h
  · rw [rd_v_f (by omega)] at h; exact h
section
variable {fs fd fb : Int32} {oc pc dl al ch sp bv fi : Nat → Int32} {ow pr aw : Nat → Nat} {df : Bool}
theorem rd_between {ah : Nat → Int32} {post : Int32 → Prop} {k x j y : Nat} (hp : ∀ i, pc i = nI (pr i)) (hpk : ∀ i, rd_ok (pr i)) (hdf : fd = rd_b df) (hk : k < 6) (hj : j < 6) (hx : x < 3) (hy : y < 3) (h : post (nI (rd_P df pr k j x y))) : wpX_between post (fs, fd, fb, oc, pc, dl, al, ch, sp, ah, bv, fi) (nI k) (nI x) (nI j) (nI y) := by
  have h23 : ¬ (df = true ∧ j = k + 1 ∧ x = y) → wX_between_23 post (nI k) (nI x) (nI j) (nI y) fs fd fb oc pc dl al ch sp ah bv fi := by
    intro hn
    have hl : (k * 6 + j) * 9 + x * 3 + y < 324 := rd_lt324 hk hj hx hy
    have h2 : post (nI (rd_rl (pr ((k * 6 + j) * 9 + x * 3 + y)))) := by
      rw [show rd_P df pr k j x y = rd_rl (pr ((k * 6 + j) * 9 + x * 3 + y)) from if_neg hn] at h
      exact h
    refine And.intro (pk_in _ _ hl (rd_i9' k j x y)) (rd_real (pr ((k * 6 + j) * 9 + x * 3 + y)) ?_ (hpk _) h2)
    rw [pk_cl _ (rd_i9' k j x y) (by omega), hp]
  subst hdf
  cases df with
  | false => exact br_t rfl (h23 (fun z => nomatch z.1))
  | true =>
    refine br_f (by decide) (pk_eq j (k + 1) (fun e1 => pk_eq x y (fun e2 => ?_) (fun e2 => h23 (fun z => e2 z.2.2))) (fun e1 => h23 (fun z => e1 z.2.1)) (hy := nI_1 k))
    rw [rd_P_t e1 e2] at h
    exact h
theorem rd_ch73 {post : SX → Prop} {J : Int32 → (Nat → Int32) → (Nat → Int32) → (Nat → Int32) → (Nat → Int32) → (Nat → Int32) → (Nat → Int32) → (Nat → Int32) → (Nat → Int32) → (Nat → Int32) → Prop} {k j x : Nat} {av : Nat → Nat} (hp : ∀ i, pc i = nI (pr i)) (hpk : ∀ i, rd_ok (pr i)) (hdf : fd = rd_b df) (hkj : k < j) (hj : j < 6) (hx : x < 3) (hav : ∀ y, y < 3 → av y ≤ 100000) : ∀ (n y fuel : Nat) (ah : Nat → Int32), y + n = 3 → n < fuel → (∀ y, y < 3 → ah ((k * 6 + j) * 3 + y) = nI (av y)) → (∀ ah' : Nat → Int32, (∀ i, i < ((k + 1) * 6 + j) * 3 + y → ah' i = ah i) → (∀ y', y ≤ y' → y' < 3 → ah' (((k + 1) * 6 + j) * 3 + y') = nI (rd_cp (av y' + rd_P df pr k j x y'))) → J (nI (j + 1)) oc pc dl al ch sp ah' bv fi) → wX_choose_73 post J (nI k) (nI x) (nI j) fs fd fb fuel (nI y) oc pc dl al ch sp ah bv fi := by
  intro n
  induction n with
  | zero =>
    intro y fuel ah hy hf hr H
    obtain ⟨fuel, rfl⟩ : ∃ n', fuel = n' + 1 := ⟨fuel - 1, by omega⟩
    refine br_t (nI_le (a := 3) (by omega) (by omega)) (fun z hz => ?_)
    rw [hz, nI_1]
    exact H ah (fun _ _ => rfl) (fun y' a b => absurd b (by omega))
  | succ n ih =>
    intro y fuel ah hy hf hr H
    obtain ⟨fuel, rfl⟩ : ∃ n', fuel = n' + 1 := ⟨fuel - 1, by omega⟩
    have hy3 : y < 3 := by omega
    have l1 : (k * 6 + j) * 3 + y < 126 := by omega
    have l2 : ((k + 1) * 6 + j) * 3 + y < 126 := by omega
    have b1 := hav y hy3
    have b2 : rd_P df pr k j x y ≤ 100000 := rd_P_le hpk
    refine br_f (nI_ge (b := 3) (by omega) (by decide)) (rd_between hp hpk hdf (by omega) hj hx hy3 (And.intro (pk_in _ _ l1 (rd_iA k j y)) (fun y7 h7 => rd_capped (av y + rd_P df pr k j x y) ?_ (by omega) (And.intro (pk_in _ _ l2 (rd_iB k j y)) (fun ah1 hA y5 h5 => ?_)))))
    · rw [h7, pk_cl _ (rd_iA k j y) (by omega), hr y hy3, nI_add]
    · rw [pk_cl _ (rd_iB k j y) (by omega)] at hA
      rw [h5, nI_1]
      subst hA
      refine ih (y + 1) fuel _ (by omega) (by omega) (fun y' hy' => ?_) (fun ah' hl hv => H ah' (fun i hi => ?_) (fun y' a b => ?_))
      · rw [pk_un (by omega)]
        exact hr y' hy'
      · rw [hl i (by omega), pk_un (by omega)]
      · by_cases e : y' = y
        · rw [e, hl _ (by omega), pk_us]
        · exact hv y' (by omega) b
theorem rd_ch63 {post : SX → Prop} {k x : Nat} {av : Nat → Nat → Nat} (hp : ∀ i, pc i = nI (pr i)) (hpk : ∀ i, rd_ok (pr i)) (hdf : fd = rd_b df) (hx : x < 3) (hav : ∀ j y, av j y ≤ 100000) : ∀ (n j fuel : Nat) (ah : Nat → Int32), j + n = 6 → n < fuel → k < j → (∀ j', j ≤ j' → j' < 6 → ∀ y, y < 3 → ah ((k * 6 + j') * 3 + y) = nI (av j' y)) → (∀ ah' : Nat → Int32, (∀ i, i < ((k + 1) * 6 + j) * 3 → ah' i = ah i) → (∀ j', j ≤ j' → j' < 6 → ∀ y, y < 3 → ah' (((k + 1) * 6 + j') * 3 + y) = nI (rd_cp (av j' y + rd_P df pr k j' x y))) → post (fs, fd, fb, oc, pc, dl, al, ch, sp, ah', bv, fi)) → wX_choose_63 post (nI k) (nI x) fs fd fb fuel (nI j) oc pc dl al ch sp ah bv fi := by
  intro n
  induction n with
  | zero =>
    intro j fuel ah hj hf hkj hr H
    obtain ⟨fuel, rfl⟩ : ∃ n', fuel = n' + 1 := ⟨fuel - 1, by omega⟩
    exact br_t (nI_le (a := 6) (by omega) (by omega)) (H ah (fun _ _ => rfl) (fun j' a b => absurd b (by omega)))
  | succ n ih =>
    intro j fuel ah hj hf hkj hr H
    obtain ⟨fuel, rfl⟩ : ∃ n', fuel = n' + 1 := ⟨fuel - 1, by omega⟩
    refine br_f (nI_ge (b := 6) (by omega) (by decide)) (Exists.intro 4 (rd_ch73 (av := av j) hp hpk hdf hkj (by omega) hx (fun y _ => hav j y) 3 0 4 ah (by omega) (by omega) (hr j (by omega) (by omega)) (fun ah1 hl1 hv1 => ?_)))
    refine ih (j + 1) fuel ah1 (by omega) (by omega) (by omega) (fun j' a b y hy => ?_) (fun ah2 hl2 hv2 => H ah2 (fun i hi => ?_) (fun j' a b y hy => ?_))
    · rw [hl1 _ (by omega)]
      exact hr j' (by omega) b y hy
    · rw [hl2 i (by omega), hl1 i (by omega)]
    · by_cases e : j' = j
      · rw [e, hl2 _ (by omega)]
        exact hv1 y (by omega) hy
      · exact hv2 j' (by omega) b y hy
end
/-- the tables of a search at level k, by an assignment m that begins with the chosen values -/
def rd_SP (O : Nat → Nat → Nat) (P : Nat → Nat → Nat → Nat → Nat) (s m k : Nat) (sp : Nat → Int32) : Prop := ∀ i, s ≤ i → i ≤ k → sp i = nI (rd_cp (rd_S O P s m i))
def rd_AH (P : Nat → Nat → Nat → Nat → Nat) (s m k : Nat) (ah : Nat → Int32) : Prop := ∀ i, s ≤ i → i ≤ k → ∀ j, i ≤ j → j < 6 → ∀ y, y < 3 → ah ((i * 6 + j) * 3 + y) = nI (rd_cp (rd_A P s m i j y))
def rd_CH (s m k : Nat) (ch : Nat → Int32) : Prop := ∀ i, s ≤ i → i < k → ch i = nI (rd_dg m i)
section
variable {fs fd fb : Int32} {oc pc dl al ch sp ah bv fi : Nat → Int32} {ow pr aw : Nat → Nat} {df : Bool}
theorem rd_choose {post : SX → Prop} {s m k x : Nat} (ho : ∀ j, oc j = nI (ow j)) (hok : ∀ j, rd_ok (ow j)) (hp : ∀ i, pc i = nI (pr i)) (hpk : ∀ i, rd_ok (pr i)) (hdf : fd = rd_b df) (hs : s ≤ k) (hk : k < 6) (hx : rd_dg m k = x) (h1 : rd_SP (rd_O ow) (rd_P df pr) s m k sp) (h2 : rd_AH (rd_P df pr) s m k ah) (h3 : rd_CH s m k ch) (H : ∀ ch' sp' ah' : Nat → Int32, rd_SP (rd_O ow) (rd_P df pr) s m (k + 1) sp' → rd_AH (rd_P df pr) s m (k + 1) ah' → rd_CH s m (k + 1) ch' → post (fs, fd, fb, oc, pc, dl, al, ch', sp', ah', bv, fi)) : wpX_choose post (fs, fd, fb, oc, pc, dl, al, ch, sp, ah, bv, fi) (nI k) (nI x) := by
  have hx3 : x < 3 := hx ▸ rd_dg_lt m k
  have l3 : k * 3 + x < 18 := rd_lt3 hk hx3
  have lA : (k * 6 + k) * 3 + x < 126 := by omega
  have b1 := rd_rl_le (hok (k * 3 + x))
  have b2 := rd_cp_le (rd_A (rd_P df pr) s m k k x)
  have b3 := rd_cp_le (rd_S (rd_O ow) (rd_P df pr) s m k)
  refine And.intro (pk_in k 6 hk) (fun ch2 hC => And.intro (pk_in _ _ l3 (rd_i3' k x)) (rd_real (ow (k * 3 + x)) ?_ (hok _) (And.intro (pk_in _ _ lA (rd_iA k k x)) (fun y3 e3 => And.intro (pk_in k 7 (by omega)) (rd_capped (rd_cp (rd_S (rd_O ow) (rd_P df pr) s m k) + (rd_rl (ow (k * 3 + x)) + rd_cp (rd_A (rd_P df pr) s m k k x))) ?_ (by omega) (And.intro (pk_in (k + 1) 7 (by omega) (nI_1 k)) (fun sp2 hS y4 e4 => Exists.intro 7 ?_)))))))
  · rw [pk_cl _ (rd_i3' k x) (by omega), ho]
  · rw [e3, pk_cl _ (rd_iA k k x) (by omega), h2 k hs (Nat.le_refl _) k (Nat.le_refl _) hk x hx3, nI_clamp (by omega), h1 k hs (Nat.le_refl _), nI_add, nI_add]
  · rw [nI_clamp (by omega)] at hC
    rw [pk_cl _ (nI_1 k) (by omega), rd_cp_add] at hS
    rw [e4, nI_1]
    refine rd_ch63 (av := fun j y => rd_cp (rd_A (rd_P df pr) s m k j y)) hp hpk hdf hx3 (fun j y => rd_cp_le _) (6 - (k + 1)) (k + 1) 7 ah (by omega) (by omega) (by omega) (fun j' a b y hy => h2 k hs (Nat.le_refl _) j' (by omega) b y hy) (fun ah' hl hv => H ch2 sp2 ah' ?_ ?_ ?_)
    · intro i hi hik
      rw [hS]
      by_cases e : i = k + 1
      · rw [e, pk_us, rd_S_n hs, hx]
        rfl
      · rw [pk_un e]
        exact h1 i hi (by omega)
    · intro i hi hik j hij hj y hy
      by_cases e : i = k + 1
      · rw [e, rd_A_n hs, hx, ← rd_cp_add2]
        exact hv j (by omega) hj y hy
      · rw [hl _ (by omega)]
        exact h2 i hi (by omega) j hij hj y hy
    · intro i hi hik
      rw [hC]
      by_cases e : i = k
      · rw [e, pk_us, hx]
      · rw [pk_un e]
        exact h3 i hi (by omega)
theorem rd_bound29 {post : Int32 → Prop} {J : Int32 → Int32 → Prop} {k j acc : Nat} {av : Nat → Nat} (hal : al j = nI (aw j)) (haw : aw j < 8) (hk : k < 6) (hj : j < 6) (hr : ∀ y, y < 3 → ah ((k * 6 + j) * 3 + y) = nI (av y)) (hav : ∀ y, av y ≤ 100000) : ∀ (n y fuel l : Nat), y + n = 3 → n < fuel → l ≤ 100000 → (∀ l', l' ≤ l → (∀ y', y ≤ y' → y' < 3 → aw j / 2 ^ y' % 2 = 1 → l' ≤ av y') → J (nI (acc + l')) (nI (j + 1))) → wX_bound_29 post J (nI k) (nI acc) (nI j) fs fd fb oc pc dl al ch sp ah bv fi fuel (nI l) (nI y) := by
  intro n
  induction n with
  | zero =>
    intro y fuel l hy hf hl H
    obtain ⟨fuel, rfl⟩ : ∃ n', fuel = n' + 1 := ⟨fuel - 1, by omega⟩
    refine br_t (nI_le (a := 3) (by omega) (by omega)) (fun z hz z2 hz2 => ?_)
    rw [hz, hz2, nI_add, nI_1]
    exact H l (Nat.le_refl _) (fun y' a b => absurd b (by omega))
  | succ n ih =>
    intro y fuel l hy hf hl H
    obtain ⟨fuel, rfl⟩ : ∃ n', fuel = n' + 1 := ⟨fuel - 1, by omega⟩
    have hy3 : y < 3 := by omega
    have l1 : (k * 6 + j) * 3 + y < 126 := by omega
    have b1 := hav y
    have eb : ((al (nI j).toNatClampNeg >>> (nI y &&& 31)) &&& 1) = nI (aw j / 2 ^ y % 2) := by
      rw [nI_clamp (by omega), hal]
      exact rd_bit _ haw _ hy3
    refine br_f (nI_ge (b := 3) (by omega) (by decide)) (And.intro (pk_in _ _ l1 (rd_iA k j y)) (fun y6 h6 => And.intro (pk_in j 6 hj) (pk_eq (aw j / 2 ^ y % 2) 1 (fun e => ?_) (fun e z hz => ?_) (hx := eb))))
    · rw [pk_cl _ (rd_iA k j y) (by omega), hr y hy3] at h6
      subst h6
      refine pk_le l (av y) (fun hle z hz => ?_) (fun hlt z hz => ?_)
      · rw [hz, nI_1]
        refine ih (y + 1) fuel l (by omega) (by omega) hl (fun l' a b => H l' a (fun y' c d f => ?_))
        by_cases e2 : y' = y
        · rw [e2]; omega
        · exact b y' (by omega) d f
      · rw [hz, nI_1]
        refine ih (y + 1) fuel (av y) (by omega) (by omega) b1 (fun l' a b => H l' (by omega) (fun y' c d f => ?_))
        by_cases e2 : y' = y
        · rw [e2]; exact a
        · exact b y' (by omega) d f
    · rw [hz, nI_1]
      refine ih (y + 1) fuel l (by omega) (by omega) hl (fun l' a b => H l' a (fun y' c d f => ?_))
      by_cases e2 : y' = y
      · rw [e2] at f; exact absurd f e
      · exact b y' (by omega) d f
theorem rd_bound16 {post : Int32 → Prop} {k : Nat} {av : Nat → Nat → Nat} (hal : ∀ j, j < 6 → al j = nI (aw j) ∧ aw j < 8) (hk : k < 6) (hr : ∀ j, k ≤ j → j < 6 → ∀ y, y < 3 → ah ((k * 6 + j) * 3 + y) = nI (av j y)) (hav : ∀ j y, av j y ≤ 100000) : ∀ (n j fuel acc : Nat), j + n = 6 → n < fuel → k ≤ j → acc + 100000 * n ≤ 2000000 → (∀ L, L ≤ 100000 * n → (∀ y : Nat → Nat, (∀ i, j ≤ i → i < 6 → y i < 3 ∧ aw i / 2 ^ (y i) % 2 = 1) → L ≤ rd_s (fun i => av i (y i)) j n) → post (nI (rd_cp (acc + L)))) → wX_bound_16 post (nI k) fs fd fb oc pc dl al ch sp ah bv fi fuel (nI acc) (nI j) := by
  intro n
  induction n with
  | zero =>
    intro j fuel acc hj hf hkj ha H
    obtain ⟨fuel, rfl⟩ : ∃ n', fuel = n' + 1 := ⟨fuel - 1, by omega⟩
    exact br_t (nI_le (a := 6) (by omega) (by omega)) (rd_capped acc rfl (by omega) (H 0 (Nat.zero_le _) (fun _ _ => Nat.zero_le _)))
  | succ n ih =>
    intro j fuel acc hj hf hkj ha H
    obtain ⟨fuel, rfl⟩ : ∃ n', fuel = n' + 1 := ⟨fuel - 1, by omega⟩
    have hj6 : j < 6 := by omega
    refine br_f (nI_ge (b := 6) hj6 (by decide)) (Exists.intro 4 (rd_bound29 (av := av j) (hal j hj6).1 (hal j hj6).2 hk hj6 (hr j hkj hj6) (hav j) 3 0 4 100000 (by omega) (by omega) (Nat.le_refl _) (fun l hl hv => ?_)))
    refine ih (j + 1) fuel (acc + l) (by omega) (by omega) (by omega) (by omega) (fun L hL hvL => ?_)
    rw [Nat.add_assoc]
    refine H (l + L) (by omega) (fun y hy => ?_)
    have c1 := hy j (Nat.le_refl _) hj6
    exact Nat.add_le_add (hv (y j) (Nat.zero_le _) c1.1 c1.2) (hvL y (fun i a b => hy i (by omega) b))
theorem rd_bound {post : Int32 → Prop} {k a d : Nat} {av : Nat → Nat → Nat} (hal : ∀ j, j < 6 → al j = nI (aw j) ∧ aw j < 8) (hk : k < 6) (hr : ∀ j, k ≤ j → j < 6 → ∀ y, y < 3 → ah ((k * 6 + j) * 3 + y) = nI (av j y)) (hav : ∀ j y, av j y ≤ 100000) (hsp : sp k = nI a) (ha : a ≤ 100000) (hdl : dl k = nI d) (hd : d ≤ 100000) (H : ∀ L, (∀ y : Nat → Nat, (∀ i, k ≤ i → i < 6 → y i < 3 ∧ aw i / 2 ^ (y i) % 2 = 1) → L ≤ rd_s (fun i => av i (y i)) k (6 - k)) → post (nI (rd_cp (a + d + L)))) : wpX_bound post (fs, fd, fb, oc, pc, dl, al, ch, sp, ah, bv, fi) (nI k) := by
  refine And.intro (pk_in k 7 (by omega)) (And.intro (pk_in k 7 (by omega)) (fun y hy => Exists.intro 7 ?_))
  rw [hy, nI_clamp (by omega), hsp, hdl, nI_add]
  exact rd_bound16 hal hk hr hav (6 - k) k 7 (a + d) (by omega) (by omega) (Nat.le_refl _) (by omega) (fun L _ h => H L h)
theorem rd_next11 {post : Int32 → Prop} {k : Nat} (hal : al k = nI (aw k)) (haw : aw k < 8) (hk : k < 6) : ∀ (n x i fuel : Nat), x + n = 3 → n < fuel → i ≤ x → (∀ x', x ≤ x' → x' ≤ 3 → (∀ z, x ≤ z → z < x' → ¬ aw k / 2 ^ z % 2 = 1) → (x' < 3 → aw k / 2 ^ x' % 2 = 1) → post (nI x')) → wX_nextValue_11 post (nI k) fs fd fb oc pc dl al ch sp ah bv fi fuel (nI x) (nI i) := by
  intro n
  induction n with
  | zero =>
    intro x i fuel hx hf hi H
    obtain ⟨fuel, rfl⟩ : ∃ n', fuel = n' + 1 := ⟨fuel - 1, by omega⟩
    have h3 := H x (Nat.le_refl _) (by omega) (fun z a b => absurd b (by omega)) (fun z => absurd z (by omega))
    exact pk_le 3 i (fun _ => h3) (fun _ => br_t (nI_le (a := 3) (by omega) (by omega)) h3)
  | succ n ih =>
    intro x i fuel hx hf hi H
    obtain ⟨fuel, rfl⟩ : ∃ n', fuel = n' + 1 := ⟨fuel - 1, by omega⟩
    have hx3 : x < 3 := by omega
    have eb : ((al (nI k).toNatClampNeg >>> (nI x &&& 31)) &&& 1) = nI (aw k / 2 ^ x % 2) := by
      rw [nI_clamp (by omega), hal]
      exact rd_bit _ haw _ hx3
    refine br_f (nI_ge (b := 3) (by omega) (by decide)) (br_f (nI_ge (b := 3) hx3 (by decide)) (And.intro (pk_in k 6 hk) (pk_eq (aw k / 2 ^ x % 2) 0 (fun e y2 h2 y3 h3 => ?_) (fun e => ?_) (hx := eb))))
    · rw [h2, h3, nI_1, nI_1]
      refine ih (x + 1) (i + 1) fuel (by omega) (by omega) (by omega) (fun x' a b c d => H x' (by omega) b (fun z f g => ?_) d)
      by_cases e2 : z = x
      · rw [e2]; omega
      · exact c z (by omega) g
    · exact H x (Nat.le_refl _) (by omega) (fun z a b => absurd b (by omega)) (fun _ => by omega)
theorem rd_next {post : Int32 → Prop} {k x : Nat} (hal : al k = nI (aw k)) (haw : aw k < 8) (hk : k < 6) (hx : x ≤ 3) (hc : ch k + 1 = nI x) (H : ∀ x', x ≤ x' → x' ≤ 3 → (∀ z, x ≤ z → z < x' → ¬ aw k / 2 ^ z % 2 = 1) → (x' < 3 → aw k / 2 ^ x' % 2 = 1) → post (nI x')) : wpX_nextValue post (fs, fd, fb, oc, pc, dl, al, ch, sp, ah, bv, fi) (nI k) := by
  refine And.intro (pk_in k 6 hk) (fun y hy => Exists.intro 4 ?_)
  rw [hy, nI_clamp (by omega), hc]
  exact rd_next11 hal haw hk (3 - x) x 0 4 (by omega) (by omega) (Nat.zero_le _) H
end
section
variable {fs fd fb : Int32} {oc pc dl al ch sp ah fi : Nat → Int32}
theorem rd_keep13 {post : SX → Prop} : ∀ (n j fuel : Nat) (bv : Nat → Int32), j + n = 6 → n < fuel → (∀ bv' : Nat → Int32, (∀ i, i < j → bv' i = bv i) → (∀ i, j ≤ i → i < 6 → bv' i = ch i) → post (fs, fd, fb, oc, pc, dl, al, ch, sp, ah, bv', fi)) → wX_keep_13 post fs fd fb fuel (nI j) oc pc dl al ch sp ah bv fi := by
  intro n
  induction n with
  | zero =>
    intro j fuel bv hj hf H
    obtain ⟨fuel, rfl⟩ : ∃ n', fuel = n' + 1 := ⟨fuel - 1, by omega⟩
    exact br_t (nI_le (a := 6) (by omega) (by omega)) (H bv (fun _ _ => rfl) (fun i a b => absurd b (by omega)))
  | succ n ih =>
    intro j fuel bv hj hf H
    obtain ⟨fuel, rfl⟩ : ∃ n', fuel = n' + 1 := ⟨fuel - 1, by omega⟩
    have hj6 : j < 6 := by omega
    refine br_f (nI_ge (b := 6) hj6 (by decide)) (And.intro (pk_in j 6 hj6) (And.intro (pk_in j 6 hj6) (fun bv1 hb y hy => ?_)))
    rw [nI_clamp (by omega)] at hb
    rw [hy, nI_1]
    refine ih (j + 1) fuel bv1 (by omega) (by omega) (fun bv' h1 h2 => H bv' (fun i hi => ?_) (fun i a b => ?_))
    · rw [h1 i (by omega), hb, pk_un (by omega)]
    · by_cases e : i = j
      · rw [e, h1 j (by omega), hb, pk_us]
      · exact h2 i (by omega) b
theorem rd_keep {post : SX → Prop} {s b : Nat} {bv : Nat → Int32} (hs : s ≤ 6) (hb : sp 6 = nI b) (H : ∀ bv' : Nat → Int32, (∀ i, s ≤ i → i < 6 → bv' i = ch i) → post (fs, fd, nI b, oc, pc, dl, al, ch, sp, ah, bv', fi)) : wpX_keep post (fs, fd, fb, oc, pc, dl, al, ch, sp, ah, bv, fi) (nI s) := by
  intro y hy
  rw [hy, hb]
  exact Exists.intro 7 (rd_keep13 (6 - s) s 7 bv (by omega) (by omega) (fun bv' _ h2 => H bv' h2))
end
end
section
/-! the search, a round at a time -/
def rd_al (aw : Nat → Nat) (s k m : Nat) : Prop := ∀ i, s ≤ i → i < k → aw i / 2 ^ (rd_dg m i) % 2 = 1
def rd_T (ow pr aw : Nat → Nat) (df : Bool) (s m k : Nat) (ch sp ah : Nat → Int32) : Prop := rd_SP (rd_O ow) (rd_P df pr) s m k sp ∧ rd_AH (rd_P df pr) s m k ah ∧ rd_CH s m k ch ∧ rd_al aw s k m
def rd_BV (s : Nat) (w : Nat × Nat) (bv : Nat → Int32) : Prop := w.1 < 100000 → ∀ j, s ≤ j → j < 6 → bv j = nI (rd_dg w.2 j)
/-- the cost of an assignment in a search -/
def rd_cs (ow pr : Nat → Nat) (df : Bool) (s m : Nat) : Nat := rd_C (rd_O ow) (rd_P df pr) m s (6 - s)
noncomputable def rd_gs (ow pr aw : Nat → Nat) (df : Bool) (s : Nat) : Nat → Nat := rd_g (rd_al aw s 6) (rd_cs ow pr df s)
theorem rd_cs_S {ow pr : Nat → Nat} {df : Bool} {s m : Nat} (hs : s ≤ 6) : rd_cs ow pr df s m = rd_S (rd_O ow) (rd_P df pr) s m 6 := by
  unfold rd_cs
  rw [rd_C_S, show s + (6 - s) = 6 from by omega]
section
variable {ow pr aw : Nat → Nat} {df : Bool} {s m : Nat} {ch sp ah : Nat → Int32}
theorem rd_T_congr {k m' : Nat} (h : rd_T ow pr aw df s m k ch sp ah) (e : ∀ i, s ≤ i → i < k → rd_dg m' i = rd_dg m i) : rd_T ow pr aw df s m' k ch sp ah := by
  obtain ⟨h1, h2, h3, h4⟩ := h
  refine ⟨fun i a b => ?_, fun i a b j c d y f => ?_, fun i a b => ?_, fun i a b => ?_⟩
  · rw [h1 i a b, rd_S_congr i (fun q x y => e q x (by omega))]
  · rw [h2 i a b j c d y f, rd_A_congr i (fun q x y => e q x (by omega))]
  · rw [h3 i a b, e i a b]
  · rw [e i a b]; exact h4 i a b
theorem rd_T_down {k : Nat} (h : rd_T ow pr aw df s m (k + 1) ch sp ah) : rd_T ow pr aw df s m k ch sp ah := by
  obtain ⟨h1, h2, h3, h4⟩ := h
  exact ⟨fun i a b => h1 i a (by omega), fun i a b => h2 i a (by omega), fun i a b => h3 i a (by omega), fun i a b => h4 i a (by omega)⟩
end
section
variable {fs fd : Int32} {oc pc dl al bv fi ch sp ah : Nat → Int32} {ow pr aw : Nat → Nat} {df : Bool}
theorem rd_s113 {post : SX → Prop} {J : Int32 → Int32 → Int32 → Int32 → Int32 → (Nat → Int32) → (Nat → Int32) → (Nat → Int32) → (Nat → Int32) → (Nat → Int32) → (Nat → Int32) → (Nat → Int32) → (Nat → Int32) → (Nat → Int32) → Prop} {s k r b z : Nat} (hs : s ≤ 6) (hk : k < 6) (hb : b ≤ 100000) (hz : z ≤ 100000) (h6 : k = 5 → sp 6 = nI z)
    (Ha : b ≤ z → J (nI k) (nI (r + 1)) fs fd (nI b) oc pc dl al ch sp ah bv fi)
    (Hb : z < b → k = 5 → ∀ bv' : Nat → Int32, (∀ i, s ≤ i → i < 6 → bv' i = ch i) → J (nI k) (nI (r + 1)) fs fd (nI z) oc pc dl al ch sp ah bv' fi)
    (Hc : z < b → k < 5 → J (nI (k + 1)) (nI (r + 1)) fs fd (nI b) oc pc dl al (upd ch (k + 1) (-1)) sp ah bv fi) : wX_search_113 post J (nI s) (nI k) (nI r) (nI z) fs fd (nI b) oc pc dl al ch sp ah bv fi := by
  refine pk_le b z (fun h => br_t (nI_le h (by omega)) (fun y hy => ?_)) (fun h => pk_eq (k + 1) 6 (fun e => rd_keep hs (h6 (by omega)) (fun bv' hb' y hy => ?_)) (fun e => br_f (nI_ge h (by omega)) (fun y2 h2 => And.intro ?_ (fun ch2 hc y3 h3 => ?_))) (hx := nI_1 k))
  · rw [hy, nI_1]
    exact Ha h
  · rw [hy, nI_1]
    exact Hb h (by omega) bv' hb'
  · rw [h2]
    exact pk_in (k + 1) 6 (by omega) (nI_1 k)
  · rw [h2, pk_cl _ (nI_1 k) (by omega)] at hc
    rw [h2, h3, hc, nI_1, nI_1]
    exact Hc h (by omega)
/-- one round at level k -/
theorem rd_round {post : SX → Prop} {s n k M x r b w f : Nat} (ho : ∀ j, oc j = nI (ow j)) (hok : ∀ j, rd_ok (ow j)) (hp : ∀ i, pc i = nI (pr i)) (hpk : ∀ i, rd_ok (pr i)) (hdf : fd = rd_b df) (hal : ∀ j, j < 6 → al j = nI (aw j) ∧ aw j < 8)
    (hdl : ∀ q, s < q → q < 6 → ∃ d, dl q = nI d ∧ d ≤ 100000 ∧ ∀ m, d ≤ rd_C (rd_O ow) (rd_P df pr) m q (6 - q))
    (hkn : k + n = 5) (hs : s ≤ k) (hx : x ≤ 3) (hM : 3 ^ (n + 1) ∣ M) (hT : rd_T ow pr aw df s M k ch sp ah) (hc : ch k + 1 = nI x) (hb : b ≤ 100000) (hbv : rd_BV s (b, w) bv) (hr : r < 4000)
    (H1 : (∀ z, x ≤ z → z < 3 → ¬ aw k / 2 ^ z % 2 = 1) → wX_search_50 post (nI s) f (nI k + (-1)) (nI (r + 1)) fs fd (nI b) oc pc dl al ch sp ah bv fi)
    (H2 : ∀ x', x ≤ x' → x' < 3 → (∀ z, x ≤ z → z < x' → ¬ aw k / 2 ^ z % 2 = 1) → ∀ (ch' sp' ah' bv' : Nat → Int32) (b' w' : Nat), rd_T ow pr aw df s (M + x' * 3 ^ n) (k + 1) ch' sp' ah' → (b', w') = rd_f (rd_gs ow pr aw df s) (M + x' * 3 ^ n) (3 ^ n) (b, w) → rd_BV s (b', w') bv' → wX_search_50 post (nI s) f (nI k) (nI (r + 1)) fs fd (nI b') oc pc dl al ch' sp' ah' bv' fi)
    (H3 : k < 5 → ∀ x', x ≤ x' → x' < 3 → (∀ z, x ≤ z → z < x' → ¬ aw k / 2 ^ z % 2 = 1) → ∀ (ch' sp' ah' : Nat → Int32), rd_T ow pr aw df s (M + x' * 3 ^ n) (k + 1) ch' sp' ah' → ch' (k + 1) + 1 = nI 0 → wX_search_50 post (nI s) f (nI (k + 1)) (nI (r + 1)) fs fd (nI b) oc pc dl al ch' sp' ah' bv fi) :
    wX_search_50 post (nI s) (f + 1) (nI k) (nI r) fs fd (nI b) oc pc dl al ch sp ah bv fi := by
  have hk : k < 6 := by omega
  refine br_f (nI_ge (b := 4000) hr (by decide)) (br_f (nI_nlt hs (by omega)) (rd_next (hal k hk).1 (hal k hk).2 hk hx hc (fun x' a1 a2 a3 a4 => pk_le x' 2 (fun h => ?_) (fun h y hy z hz => ?_))))
  · have hx3 : x' < 3 := by omega
    have hpos : 0 < 3 ^ n := Nat.pow_pos (by decide)
    have hlt : x' * 3 ^ n < 3 ^ (n + 1) := by
      rw [Nat.pow_succ, Nat.mul_comm]
      exact Nat.mul_lt_mul_of_pos_left hx3 hpos
    have hM1 : 3 ^ n ∣ M + x' * 3 ^ n := Nat.dvd_add (Nat.dvd_trans (Nat.pow_dvd_pow 3 (Nat.le_succ n)) hM) (Nat.dvd_mul_left _ _)
    have hd : rd_dg (M + x' * 3 ^ n) k = x' := rd_dgA (t := 0) hkn hM hx3 hpos
    obtain ⟨t1, t2, t3, t4⟩ := rd_T_congr (m' := M + x' * 3 ^ n) hT (fun i _ b => rd_dgB hkn hM hlt b)
    refine rd_choose ho hok hp hpk hdf hs hk hd t1 t2 t3 (fun ch' sp' ah' u1 u2 u3 => ?_)
    have u4 : rd_al aw s (k + 1) (M + x' * 3 ^ n) := by
      intro i a b
      by_cases e : i = k
      · rw [e, hd]; exact a4 hx3
      · exact t4 i a (by omega)
    have uT : rd_T ow pr aw df s (M + x' * 3 ^ n) (k + 1) ch' sp' ah' := ⟨u1, u2, u3, u4⟩
    refine pk_le 6 (k + 1) (fun e6 => ?_) (fun e6 => ?_) (hy := nI_1 k)
    · have e5 : k = 5 := by omega
      have en : n = 0 := by omega
      subst e5 en
      have es : sp' 6 = nI (rd_cp (rd_cs ow pr df s (M + x' * 3 ^ 0))) := by
        rw [u1 6 (by omega) (Nat.le_refl _), rd_cs_S (by omega)]
      have eg : rd_gs ow pr aw df s (M + x' * 3 ^ 0) = rd_cp (rd_cs ow pr df s (M + x' * 3 ^ 0)) := rd_g_t (q := rd_al aw s 6) u4
      have ef : rd_f (rd_gs ow pr aw df s) (M + x' * 3 ^ 0) (3 ^ 0) (b, w) = rd_st (rd_gs ow pr aw df s) (M + x' * 3 ^ 0) (b, w) := rfl
      rw [es]
      refine rd_s113 (by omega) hk hb (rd_cp_le _) (fun _ => es) (fun hle => ?_) (fun hlt2 _ bv' hb' => ?_) (fun _ hk5 => absurd hk5 (by omega))
      · refine H2 x' a1 hx3 a3 ch' sp' ah' bv b w uT ?_ hbv
        rw [ef, rd_st_f]
        rw [eg]
        exact Nat.not_lt.mpr hle
      · refine H2 x' a1 hx3 a3 ch' sp' ah' bv' _ (M + x' * 3 ^ 0) uT ?_ (fun _ j c d => ?_)
        · rw [ef, rd_st_t, eg]
          rw [eg]
          exact hlt2
        · rw [hb' j c d]
          exact u3 j c (by omega)
    · obtain ⟨d, d1, d2, d3⟩ := hdl (k + 1) (by omega) (by omega)
      obtain ⟨n, rfl⟩ : ∃ n', n = n' + 1 := ⟨n - 1, by omega⟩
      rw [nI_1]
      refine rd_bound (av := fun j y => rd_cp (rd_A (rd_P df pr) s (M + x' * 3 ^ (n + 1)) (k + 1) j y)) hal (by omega) (fun j c e y q => u2 (k + 1) (by omega) (Nat.le_refl _) j c e y q) (fun j y => rd_cp_le _) (u1 (k + 1) (by omega) (Nat.le_refl _)) (rd_cp_le _) d1 d2 (fun L hL => ?_)
      refine rd_s113 (by omega) hk hb (rd_cp_le _) (fun e5 => absurd e5 (by omega)) (fun hle => ?_) (fun _ e5 => absurd e5 (by omega)) (fun hlt2 hk5 => ?_)
      · refine H2 x' a1 hx3 a3 ch' sp' ah' bv b w uT ?_ hbv
        rw [rd_f_skip]
        intro m c e
        obtain ⟨t, rfl⟩ : ∃ t, m = M + x' * 3 ^ (n + 1) + t := ⟨m - (M + x' * 3 ^ (n + 1)), by omega⟩
        have hm : ∀ i, s ≤ i → i < k + 1 → rd_dg (M + x' * 3 ^ (n + 1) + t) i = rd_dg (M + x' * 3 ^ (n + 1)) i := fun i _ q => rd_dgB (k := k + 1) (n := n) (by omega) hM1 (by omega) q
        refine rd_g_ge hb (fun hq => Nat.le_trans hle ?_)
        rw [rd_cs_S (by omega)]
        have hL2 : L ≤ rd_s (fun j => rd_A (rd_P df pr) s (M + x' * 3 ^ (n + 1)) (k + 1) j (rd_dg (M + x' * 3 ^ (n + 1) + t) j)) (k + 1) (6 - (k + 1)) :=
          Nat.le_trans (hL (rd_dg (M + x' * 3 ^ (n + 1) + t)) (fun i p q => ⟨rd_dg_lt _ _, hq i (by omega) q⟩)) (rd_s_le _ _ (fun j _ _ => rd_cp_le' _))
        have hB := rd_bnd (O := rd_O ow) (P := rd_P df pr) (s := s) (m := M + x' * 3 ^ (n + 1)) (m' := M + x' * 3 ^ (n + 1) + t) (k := k + 1) (n := 6 - (k + 1)) (by omega) (d3 _) hL2 hm
        rw [show k + 1 + (6 - (k + 1)) = 6 from by omega] at hB
        exact hB
      · refine H3 hk5 x' a1 hx3 a3 _ sp' ah' ⟨u1, u2, fun i c e => ?_, u4⟩ ?_
        · rw [pk_un (by omega)]
          exact u3 i c e
        · rw [pk_us]
          rfl
  · rw [hy, hz, nI_1]
    exact H1 (fun z c d => a3 z c (by omega))
end
end
section
/-! the search as a whole: it is the fold over all assignments -/
def rd_K : Nat → Nat
  | 0 => 0
  | n + 1 => 1 + 3 * (1 + rd_K n)
theorem rd_pos_mul {x x' T : Nat} (h : x ≤ x') : x * T + (x' - x) * T = x' * T := by
  rw [← Nat.add_mul, show x + (x' - x) = x' from by omega]
theorem rd_e3 {e x x' U : Nat} (hx : x + e = 3) (h1 : x ≤ x') (h2 : x' < 3) : e * U = (x' - x) * U + (U + (2 - x') * U) := by
  have e0 : e = (x' - x) + (1 + (2 - x')) := by omega
  rw [e0, Nat.add_mul, Nat.add_mul, Nat.one_mul]
/-- the values that aren't allowed change nothing -/
theorem rd_skip {ow pr aw : Nat → Nat} {df : Bool} {s n k M x x' b w : Nat} (hkn : k + n = 5) (hs : s ≤ k) (hM : 3 ^ (n + 1) ∣ M) (hb : b ≤ 100000) (h1 : x ≤ x') (h2 : x' ≤ 3) (h : ∀ z, x ≤ z → z < x' → ¬ aw k / 2 ^ z % 2 = 1) : rd_f (rd_gs ow pr aw df s) (M + x * 3 ^ n) ((x' - x) * 3 ^ n) (b, w) = (b, w) := by
  refine rd_f_skip _ _ _ (fun m c e => ?_)
  have hpos : 0 < 3 ^ n := Nat.pow_pos (by decide)
  have e2 := rd_pos_mul (T := 3 ^ n) h1
  obtain ⟨t, rfl⟩ : ∃ t, m = M + t := ⟨m - M, by omega⟩
  have ht := Nat.div_add_mod' t (3 ^ n)
  have hm := Nat.mod_lt t hpos
  have hz1 : x ≤ t / 3 ^ n := (Nat.le_div_iff_mul_le hpos).mpr (by omega)
  have hz2 : t / 3 ^ n < x' := (Nat.div_lt_iff_lt_mul hpos).mpr (by omega)
  have hd : rd_dg (M + t) k = t / 3 ^ n := by
    have h3 := rd_dgA (t := t % 3 ^ n) (x := t / 3 ^ n) hkn hM (by omega) hm
    rw [Nat.add_assoc, ht] at h3
    exact h3
  have hq : ¬ rd_al aw s 6 (M + t) := by
    intro q
    have h4 := q k hs (by omega)
    rw [hd] at h4
    exact h _ hz1 hz2 h4
  show b ≤ rd_g (rd_al aw s 6) (rd_cs ow pr df s) (M + t)
  rw [rd_g_f hq]
  exact hb
section
variable {fs fd : Int32} {oc pc dl al fi : Nat → Int32} {ow pr aw : Nat → Nat} {df : Bool}
theorem rd_dfs1 {post : SX → Prop} {s n k M : Nat} (ho : ∀ j, oc j = nI (ow j)) (hok : ∀ j, rd_ok (ow j)) (hp : ∀ i, pc i = nI (pr i)) (hpk : ∀ i, rd_ok (pr i)) (hdf : fd = rd_b df) (hal : ∀ j, j < 6 → al j = nI (aw j) ∧ aw j < 8)
    (hdl : ∀ q, s < q → q < 6 → ∃ d, dl q = nI d ∧ d ≤ 100000 ∧ ∀ m, d ≤ rd_C (rd_O ow) (rd_P df pr) m q (6 - q))
    (hkn : k + n = 5) (hs : s ≤ k) (hM : 3 ^ (n + 1) ∣ M)
    (hch : k < 5 → ∀ (M1 r b w : Nat) (ch sp ah bv : Nat → Int32), 3 ^ n ∣ M1 → rd_T ow pr aw df s M1 (k + 1) ch sp ah → ch (k + 1) + 1 = nI 0 → b ≤ 100000 → rd_BV s (b, w) bv → r + rd_K n ≤ 4000 → (∀ (r' b' w' : Nat) (ch' sp' ah' bv' : Nat → Int32), r' ≤ r + rd_K n → (b', w') = rd_f (rd_gs ow pr aw df s) M1 (3 ^ n) (b, w) → rd_T ow pr aw df s M1 (k + 1) ch' sp' ah' → rd_BV s (b', w') bv' → wX_search_50 post (nI s) (4001 - r') (nI k) (nI r') fs fd (nI b') oc pc dl al ch' sp' ah' bv' fi) → wX_search_50 post (nI s) (4001 - r) (nI (k + 1)) (nI r) fs fd (nI b) oc pc dl al ch sp ah bv fi) :
    ∀ (e x r b w : Nat) (ch sp ah bv : Nat → Int32), x + e = 3 → rd_T ow pr aw df s M k ch sp ah → ch k + 1 = nI x → b ≤ 100000 → rd_BV s (b, w) bv → r + (1 + e * (1 + rd_K n)) ≤ 4000 → (∀ (r' b' w' : Nat) (ch' sp' ah' bv' : Nat → Int32), r' ≤ r + (1 + e * (1 + rd_K n)) → (b', w') = rd_f (rd_gs ow pr aw df s) (M + x * 3 ^ n) (e * 3 ^ n) (b, w) → rd_T ow pr aw df s M k ch' sp' ah' → rd_BV s (b', w') bv' → wX_search_50 post (nI s) (4001 - r') (nI k + (-1)) (nI r') fs fd (nI b') oc pc dl al ch' sp' ah' bv' fi) → wX_search_50 post (nI s) (4001 - r) (nI k) (nI r) fs fd (nI b) oc pc dl al ch sp ah bv fi := by
  intro e
  induction e using Nat.strongRecOn with
  | ind e ihe =>
  intro x r b w ch sp ah bv hx hT hc hb hbv hr K
  -- the round's end at level k, behind value x'
  have C : ∀ (x' r' b' w' : Nat) (ch' sp' ah' bv' : Nat → Int32), x ≤ x' → x' < 3 → (∀ z, x ≤ z → z < x' → ¬ aw k / 2 ^ z % 2 = 1) → r' ≤ r + (1 + rd_K n) → (b', w') = rd_f (rd_gs ow pr aw df s) (M + x' * 3 ^ n) (3 ^ n) (b, w) → rd_T ow pr aw df s (M + x' * 3 ^ n) (k + 1) ch' sp' ah' → rd_BV s (b', w') bv' → wX_search_50 post (nI s) (4001 - r') (nI k) (nI r') fs fd (nI b') oc pc dl al ch' sp' ah' bv' fi := by
    intro x' r' b' w' ch' sp' ah' bv' c1 c2 c3 c4 c5 c6 c7
    have hpos : 0 < 3 ^ n := Nat.pow_pos (by decide)
    have hlt : x' * 3 ^ n < 3 ^ (n + 1) := by
      rw [Nat.pow_succ, Nat.mul_comm]
      exact Nat.mul_lt_mul_of_pos_left c2 hpos
    have hd : rd_dg (M + x' * 3 ^ n) k = x' := rd_dgA (t := 0) hkn hM c2 hpos
    have hT' : rd_T ow pr aw df s M k ch' sp' ah' := rd_T_congr (rd_T_down c6) (fun i _ q => (rd_dgB hkn hM hlt q).symm)
    have hc' : ch' k + 1 = nI (x' + 1) := by
      rw [c6.2.2.1 k hs (by omega), hd, nI_1]
    have hb' : b' ≤ 100000 := by
      have h9 := rd_f_le (g := rd_gs ow pr aw df s) (3 ^ n) (M + x' * 3 ^ n) (b, w)
      rw [← c5] at h9
      exact Nat.le_trans h9 hb
    have eE := rd_e3 (U := 1 + rd_K n) hx c1 c2
    have eT := rd_e3 (U := 3 ^ n) hx c1 c2
    have eP := rd_pos_mul (T := 3 ^ n) c1
    have eS : x' * 3 ^ n + 3 ^ n = (x' + 1) * 3 ^ n := (Nat.succ_mul x' (3 ^ n)).symm
    have eF : rd_f (rd_gs ow pr aw df s) (M + x * 3 ^ n) (e * 3 ^ n) (b, w) = rd_f (rd_gs ow pr aw df s) (M + (x' + 1) * 3 ^ n) ((2 - x') * 3 ^ n) (b', w') := by
      rw [eT, rd_f_add, rd_skip hkn hs hM hb c1 (by omega) c3, rd_f_add, c5]
      rw [show M + x * 3 ^ n + (x' - x) * 3 ^ n = M + x' * 3 ^ n from by omega, show M + x' * 3 ^ n + 3 ^ n = M + (x' + 1) * 3 ^ n from by omega]
    refine ihe (2 - x') (by omega) (x' + 1) r' b' w' ch' sp' ah' bv' (by omega) hT' hc' hb' c7 (by omega) (fun r'' b'' w'' ch'' sp'' ah'' bv'' q1 q2 q3 q4 => K r'' b'' w'' ch'' sp'' ah'' bv'' (by omega) (by rw [eF]; exact q2) q3 q4)
  obtain ⟨f, hf⟩ : ∃ f, 4001 - r = f + 1 := ⟨4000 - r, by omega⟩
  have hf' : f = 4001 - (r + 1) := by omega
  rw [hf]
  refine rd_round ho hok hp hpk hdf hal hdl hkn hs (by omega) hM hT hc hb hbv (by omega) (fun h => ?_) (fun x' c1 c2 c3 ch' sp' ah' bv' b' w' c4 c5 c6 => ?_) (fun h5 x' c1 c2 c3 ch' sp' ah' c4 c5 => ?_)
  · rw [hf']
    refine K (r + 1) b w ch sp ah bv (by omega) ?_ hT hbv
    have h3 := rd_skip (ow := ow) (pr := pr) (df := df) (w := w) hkn hs hM hb (show x ≤ 3 by omega) (Nat.le_refl 3) h
    rw [show 3 - x = e from by omega] at h3
    exact h3.symm
  · rw [hf']
    exact C x' (r + 1) b' w' ch' sp' ah' bv' c1 c2 c3 (by omega) c5 c4 c6
  · rw [hf']
    have hM1 : 3 ^ n ∣ M + x' * 3 ^ n := Nat.dvd_add (Nat.dvd_trans (Nat.pow_dvd_pow 3 (Nat.le_succ n)) hM) (Nat.dvd_mul_left _ _)
    have he : 1 + rd_K n ≤ e * (1 + rd_K n) := Nat.le_mul_of_pos_left _ (by omega)
    exact hch h5 (M + x' * 3 ^ n) (r + 1) b w ch' sp' ah' bv hM1 c4 c5 hb hbv (by omega) (fun r' b' w' ch'' sp'' ah'' bv'' q1 q2 q3 q4 => C x' r' b' w' ch'' sp'' ah'' bv'' c1 c2 c3 (by omega) q2 q3 q4)
theorem rd_dfs {post : SX → Prop} {s : Nat} (ho : ∀ j, oc j = nI (ow j)) (hok : ∀ j, rd_ok (ow j)) (hp : ∀ i, pc i = nI (pr i)) (hpk : ∀ i, rd_ok (pr i)) (hdf : fd = rd_b df) (hal : ∀ j, j < 6 → al j = nI (aw j) ∧ aw j < 8)
    (hdl : ∀ q, s < q → q < 6 → ∃ d, dl q = nI d ∧ d ≤ 100000 ∧ ∀ m, d ≤ rd_C (rd_O ow) (rd_P df pr) m q (6 - q)) :
    ∀ (n k : Nat), k + n = 5 → s ≤ k → ∀ (M r b w : Nat) (ch sp ah bv : Nat → Int32), 3 ^ (n + 1) ∣ M → rd_T ow pr aw df s M k ch sp ah → ch k + 1 = nI 0 → b ≤ 100000 → rd_BV s (b, w) bv → r + rd_K (n + 1) ≤ 4000 → (∀ (r' b' w' : Nat) (ch' sp' ah' bv' : Nat → Int32), r' ≤ r + rd_K (n + 1) → (b', w') = rd_f (rd_gs ow pr aw df s) M (3 ^ (n + 1)) (b, w) → rd_T ow pr aw df s M k ch' sp' ah' → rd_BV s (b', w') bv' → wX_search_50 post (nI s) (4001 - r') (nI k + (-1)) (nI r') fs fd (nI b') oc pc dl al ch' sp' ah' bv' fi) → wX_search_50 post (nI s) (4001 - r) (nI k) (nI r) fs fd (nI b) oc pc dl al ch sp ah bv fi := by
  intro n
  induction n with
  | zero =>
    intro k hkn hs M r b w ch sp ah bv hM hT hc hb hbv hr K
    refine rd_dfs1 (n := 0) ho hok hp hpk hdf hal hdl hkn hs hM (fun h => absurd h (by omega)) 3 0 r b w ch sp ah bv (by omega) hT hc hb hbv hr (fun r' b' w' ch' sp' ah' bv' q1 q2 q3 q4 => K r' b' w' ch' sp' ah' bv' q1 ?_ q3 q4)
    rw [Nat.zero_mul, Nat.add_zero, Nat.mul_comm, ← Nat.pow_succ] at q2
    exact q2
  | succ n ih =>
    intro k hkn hs M r b w ch sp ah bv hM hT hc hb hbv hr K
    refine rd_dfs1 (n := n + 1) ho hok hp hpk hdf hal hdl hkn hs hM (fun h M1 r1 b1 w1 ch1 sp1 ah1 bv1 m1 m2 m3 m4 m5 m6 m7 => ?_) 3 0 r b w ch sp ah bv (by omega) hT hc hb hbv hr (fun r' b' w' ch' sp' ah' bv' q1 q2 q3 q4 => K r' b' w' ch' sp' ah' bv' q1 ?_ q3 q4)
    · refine ih (k + 1) (by omega) (by omega) M1 r1 b1 w1 ch1 sp1 ah1 bv1 m1 m2 m3 m4 m5 m6 (fun r' b' w' ch' sp' ah' bv' q1 q2 q3 q4 => ?_)
      rw [pk_m1]
      exact m7 r' b' w' ch' sp' ah' bv' q1 q2 q3 q4
    · rw [Nat.zero_mul, Nat.add_zero, Nat.mul_comm, ← Nat.pow_succ] at q2
      exact q2
theorem rd_s15 {post : SX → Prop} {s : Nat} {fb : Int32} {bv ch sp : Nat → Int32} (hs : s < 6) : ∀ (n q fuel : Nat) (ah : Nat → Int32), q + n = 18 → n < fuel → (∀ ah' : Nat → Int32, (∀ i, i < s * 18 + q → ah' i = ah i) → (∀ i, s * 18 + q ≤ i → i < s * 18 + 18 → ah' i = 0) → ∃ n50 : Nat, wX_search_50 post (nI s) n50 (nI s) 0 fs fd fb oc pc dl al (upd ch s (-1)) sp ah' bv fi) → wX_search_15 post (nI s) fs fd fb fuel (nI q) oc pc dl al ch sp ah bv fi := by
  intro n
  induction n with
  | zero =>
    intro q fuel ah hq hf H
    obtain ⟨fuel, rfl⟩ : ∃ n', fuel = n' + 1 := ⟨fuel - 1, by omega⟩
    refine br_t (nI_le (a := 18) (by omega) (by omega)) (And.intro (pk_in s 6 hs) (fun ch1 hc => ?_))
    rw [hc, nI_clamp (by omega)]
    exact H ah (fun _ _ => rfl) (fun i a b => absurd b (by omega))
  | succ n ih =>
    intro q fuel ah hq hf H
    obtain ⟨fuel, rfl⟩ : ∃ n', fuel = n' + 1 := ⟨fuel - 1, by omega⟩
    have ix : (nI s * 18) + nI q = nI (s * 18 + q) := by
      show nI s * nI 18 + nI q = _
      rw [pk_mul, nI_add]
    refine br_f (nI_ge (b := 18) (by omega) (by decide)) (And.intro (pk_in (s * 18 + q) 126 (by omega) ix) (fun ah1 hA y hy => ?_))
    rw [pk_cl _ ix (by omega)] at hA
    rw [hy, nI_1]
    refine ih (q + 1) fuel ah1 (by omega) (by omega) (fun ah' h1 h2 => H ah' (fun i hi => ?_) (fun i a b => ?_))
    · rw [h1 i (by omega), hA, pk_un (by omega)]
    · by_cases e : i = s * 18 + q
      · rw [e, h1 _ (by omega), hA, pk_us]
      · exact h2 i (by omega) b
/-- search(s): the first of the cheapest among the allowed assignments -/
theorem rd_search {post : SX → Prop} {s : Nat} {fb : Int32} {ch sp ah bv : Nat → Int32} (ho : ∀ j, oc j = nI (ow j)) (hok : ∀ j, rd_ok (ow j)) (hp : ∀ i, pc i = nI (pr i)) (hpk : ∀ i, rd_ok (pr i)) (hdf : fd = rd_b df) (hal : ∀ j, j < 6 → al j = nI (aw j) ∧ aw j < 8)
    (hdl : ∀ q, s < q → q < 6 → ∃ d, dl q = nI d ∧ d ≤ 100000 ∧ ∀ m, d ≤ rd_C (rd_O ow) (rd_P df pr) m q (6 - q)) (hs : s < 6)
    (H : ∀ ch' sp' ah' bv' : Nat → Int32, rd_BV s (rd_F (rd_gs ow pr aw df s) (3 ^ (6 - s))) bv' → post (fs, fd, nI (rd_F (rd_gs ow pr aw df s) (3 ^ (6 - s))).1, oc, pc, dl, al, ch', sp', ah', bv', fi)) : wpX_search post (fs, fd, fb, oc, pc, dl, al, ch, sp, ah, bv, fi) (nI s) := by
  refine And.intro (pk_in s 7 (by omega)) (fun sp1 hS => Exists.intro 19 ?_)
  rw [nI_clamp (by omega)] at hS
  refine rd_s15 hs 18 0 19 ah (by omega) (by omega) (fun ah1 _ h2 => Exists.intro 4001 ?_)
  have hK : rd_K (5 - s + 1) ≤ 4000 := by
    have h6 : ∀ q, q < 6 → rd_K (5 - q + 1) ≤ 4000 := by decide
    exact h6 s hs
  have e6 : 5 - s + 1 = 6 - s := by omega
  refine rd_dfs (df := df) (aw := aw) ho hok hp hpk hdf hal hdl (5 - s) s (by omega) (Nat.le_refl _) 0 0 100000 0 (upd ch s (-1)) sp1 ah1 bv (Nat.dvd_zero _) ⟨fun i a b => ?_, fun i a b j c d y f => ?_, fun i a b => absurd b (by omega), fun i a b => absurd b (by omega)⟩ ?_ (Nat.le_refl _) (fun h => absurd h (by decide)) (by omega) (fun r' b' w' ch' sp' ah' bv' q1 q2 q3 q4 => ?_)
  · have e : i = s := by omega
    rw [hS, e, pk_us, rd_S_s]
    rfl
  · have e : i = s := by omega
    rw [h2 _ (by omega) (by omega), e, rd_A_s]
    rfl
  · rw [pk_us]
    rfl
  · rw [e6] at q2
    have q2' : rd_F (rd_gs ow pr aw df s) (3 ^ (6 - s)) = (b', w') := q2.symm
    have hp' := H ch' sp' ah' bv' (by rw [q2']; exact q4)
    rw [q2'] at hp'
    obtain ⟨f, hf⟩ : ∃ f, 4001 - r' = f + 1 := ⟨4000 - r', by omega⟩
    rw [hf]
    refine pk_le 4000 r' (fun _ => hp') (fun _ => br_t ?_ hp')
    cases s with
    | zero => decide
    | succ s =>
      rw [pk_m1]
      exact nI_lt (Nat.lt_succ_self s) (by omega)
end
end
section
/-! allowAll, solve, and what they rest on -/
theorem rd_7 : ∀ d, d < 3 → 7 / 2 ^ d % 2 = 1 := by decide
theorem rd_al7 {s k m : Nat} : rd_al (fun _ => 7) s k m := fun i _ _ => rd_7 _ (rd_dg_lt m i)
theorem rd_gs7 {ow pr : Nat → Nat} {df : Bool} {s m : Nat} : rd_gs ow pr (fun _ => 7) df s m = rd_cp (rd_cs ow pr df s m) := rd_g_t rd_al7
theorem rd_F7 {ow pr : Nat → Nat} {s : Nat} : rd_F (rd_gs ow pr (fun _ => 7) false s) (3 ^ (6 - s)) = rd_D ow pr s := rd_F_congr (fun _ _ => rd_gs7)
theorem rd_D_le {ow pr : Nat → Nat} {i : Nat} : (rd_D ow pr i).1 ≤ 100000 := rd_F_le
theorem rd_D_lb {ow pr : Nat → Nat} {df : Bool} (hpk : ∀ i, rd_ok (pr i)) {q : Nat} (hq : q < 6) (m : Nat) : (rd_D ow pr q).1 ≤ rd_C (rd_O ow) (rd_P df pr) m q (6 - q) := by
  have h1 : (rd_D ow pr q).1 ≤ rd_cp (rd_c ow pr q (m % 3 ^ (6 - q))) := rd_F_lb (g := fun m => rd_cp (rd_c ow pr q m)) (Nat.mod_lt m (Nat.pow_pos (by decide)))
  have h2 := rd_cp_le' (rd_c ow pr q (m % 3 ^ (6 - q)))
  have h3 : rd_c ow pr q (m % 3 ^ (6 - q)) = rd_C (rd_O ow) (rd_P false pr) m q (6 - q) := rd_C_congr (6 - q) q (fun i a b => rd_dg_mod (by omega))
  have h4 : rd_C (rd_O ow) (rd_P false pr) m q (6 - q) ≤ rd_C (rd_O ow) (rd_P df pr) m q (6 - q) := rd_C_mono (fun a b x y => rd_P_mono hpk) (6 - q) q
  omega
/-- dolls and first are those of the costs -/
def rd_Sol (ow pr : Nat → Nat) (dl fi : Nat → Int32) : Prop := (∀ i, i < 6 → dl i = nI (rd_D ow pr i).1) ∧ ((rd_D ow pr 0).1 < 100000 → ∀ j, j < 6 → fi j = nI (rd_dg (rd_D ow pr 0).2 j))
theorem rd_hdl {ow pr : Nat → Nat} {df : Bool} {dl : Nat → Int32} {s : Nat} (hpk : ∀ i, rd_ok (pr i)) (h : ∀ q, s < q → q < 6 → dl q = nI (rd_D ow pr q).1) : ∀ q, s < q → q < 6 → ∃ d, dl q = nI d ∧ d ≤ 100000 ∧ ∀ m, d ≤ rd_C (rd_O ow) (rd_P df pr) m q (6 - q) :=
  fun q a b => ⟨_, h q a b, rd_D_le, rd_D_lb hpk b⟩
section
variable {fs fd fb : Int32} {oc pc dl ch sp ah bv fi : Nat → Int32}
theorem rd_all7 {post : SX → Prop} : ∀ (n j fuel : Nat) (al : Nat → Int32), j + n = 6 → n < fuel → (∀ al' : Nat → Int32, (∀ i, i < j → al' i = al i) → (∀ i, j ≤ i → i < 6 → al' i = 7) → post (fs, fd, fb, oc, pc, dl, al', ch, sp, ah, bv, fi)) → wX_allowAll_7 post fs fd fb fuel (nI j) oc pc dl al ch sp ah bv fi := by
  intro n
  induction n with
  | zero =>
    intro j fuel al hj hf H
    obtain ⟨fuel, rfl⟩ : ∃ n', fuel = n' + 1 := ⟨fuel - 1, by omega⟩
    exact br_t (nI_le (a := 6) (by omega) (by omega)) (H al (fun _ _ => rfl) (fun i a b => absurd b (by omega)))
  | succ n ih =>
    intro j fuel al hj hf H
    obtain ⟨fuel, rfl⟩ : ∃ n', fuel = n' + 1 := ⟨fuel - 1, by omega⟩
    have hj6 : j < 6 := by omega
    refine br_f (nI_ge (b := 6) hj6 (by decide)) (And.intro (pk_in j 6 hj6) (fun al1 hb y hy => ?_))
    rw [nI_clamp (by omega)] at hb
    rw [hy, nI_1]
    refine ih (j + 1) fuel al1 (by omega) (by omega) (fun al' h1 h2 => H al' (fun i hi => ?_) (fun i a b => ?_))
    · rw [h1 i (by omega), hb, pk_un (by omega)]
    · by_cases e : i = j
      · rw [e, h1 j (by omega), hb, pk_us]
      · exact h2 i (by omega) b
theorem rd_allowAll {post : SX → Prop} {al : Nat → Int32} (H : ∀ al' : Nat → Int32, (∀ i, i < 6 → al' i = 7) → post (fs, 0, fb, oc, pc, dl, al', ch, sp, ah, bv, fi)) : wpX_allowAll post (fs, fd, fb, oc, pc, dl, al, ch, sp, ah, bv, fi) :=
  Exists.intro 7 (rd_all7 6 0 7 al (by omega) (by omega) (fun al' _ h2 => H al' (fun i hi => h2 i (Nat.zero_le _) hi)))
theorem rd_solve49 {post : SX → Prop} {al : Nat → Int32} : ∀ (n j fuel : Nat) (fi : Nat → Int32), j + n = 6 → n < fuel → (∀ fi' : Nat → Int32, (∀ i, i < j → fi' i = fi i) → (∀ i, j ≤ i → i < 6 → fi' i = bv i) → post (1, fd, fb, oc, pc, dl, al, ch, sp, ah, bv, fi')) → wX_solve_49 post fs fd fb fuel (nI j) oc pc dl al ch sp ah bv fi := by
  intro n
  induction n with
  | zero =>
    intro j fuel fi hj hf H
    obtain ⟨fuel, rfl⟩ : ∃ n', fuel = n' + 1 := ⟨fuel - 1, by omega⟩
    exact br_t (nI_le (a := 6) (by omega) (by omega)) (H fi (fun _ _ => rfl) (fun i a b => absurd b (by omega)))
  | succ n ih =>
    intro j fuel fi hj hf H
    obtain ⟨fuel, rfl⟩ : ∃ n', fuel = n' + 1 := ⟨fuel - 1, by omega⟩
    have hj6 : j < 6 := by omega
    refine br_f (nI_ge (b := 6) hj6 (by decide)) (And.intro (pk_in j 6 hj6) (And.intro (pk_in j 6 hj6) (fun fi1 hb y hy => ?_)))
    rw [nI_clamp (by omega)] at hb
    rw [hy, nI_1]
    refine ih (j + 1) fuel fi1 (by omega) (by omega) (fun fi' h1 h2 => H fi' (fun i hi => ?_) (fun i a b => ?_))
    · rw [h1 i (by omega), hb, pk_un (by omega)]
    · by_cases e : i = j
      · rw [e, h1 j (by omega), hb, pk_us]
      · exact h2 i (by omega) b
end
section
variable {oc pc al fi : Nat → Int32} {ow pr : Nat → Nat} {fs : Int32}
theorem rd_solve22 {post : SX → Prop} (ho : ∀ j, oc j = nI (ow j)) (hok : ∀ j, rd_ok (ow j)) (hp : ∀ i, pc i = nI (pr i)) (hpk : ∀ i, rd_ok (pr i)) (hal : ∀ j, j < 6 → al j = 7) (H : ∀ (fb : Int32) (dl ch sp ah bv fi : Nat → Int32), rd_Sol ow pr dl fi → post (1, 0, fb, oc, pc, dl, al, ch, sp, ah, bv, fi)) : ∀ (n fuel : Nat) (fb : Int32) (dl ch sp ah bv : Nat → Int32), n ≤ 6 → n < fuel → (∀ q, n ≤ q → q < 6 → dl q = nI (rd_D ow pr q).1) → (n = 0 → rd_BV 0 (rd_D ow pr 0) bv) → wX_solve_22 post fuel (nI n + (-1)) fs 0 fb oc pc dl al ch sp ah bv fi := by
  intro n
  induction n with
  | zero =>
    intro fuel fb dl ch sp ah bv hn hf hd hb
    obtain ⟨fuel, rfl⟩ : ∃ n', fuel = n' + 1 := ⟨fuel - 1, by omega⟩
    refine br_t (by decide) (Exists.intro 7 (rd_solve49 6 0 7 fi (by omega) (by omega) (fun fi' _ h2 => H fb dl ch sp ah bv fi' ⟨fun i hi => hd i (Nat.zero_le _) hi, fun h j hj => ?_⟩)))
    rw [h2 j (Nat.zero_le _) hj]
    exact hb rfl h j (Nat.zero_le _) hj
  | succ n ih =>
    intro fuel fb dl ch sp ah bv hn hf hd hb
    obtain ⟨fuel, rfl⟩ : ∃ n', fuel = n' + 1 := ⟨fuel - 1, by omega⟩
    rw [pk_m1]
    refine br_f (nI_pos (by omega)) (rd_search (df := false) (aw := fun _ => 7) ho hok hp hpk rfl (fun j hj => ⟨hal j hj, by decide⟩) (rd_hdl hpk (fun q a b => hd q (by omega) b)) (by omega) (fun ch' sp' ah' bv' hbv => And.intro (pk_in n 7 (by omega)) (fun dl1 h1 y hy => ?_)))
    rw [rd_F7] at hbv h1
    rw [nI_clamp (by omega)] at h1
    rw [hy]
    refine ih fuel _ dl1 ch' sp' ah' bv' (by omega) (by omega) (fun q a b => ?_) (fun e => ?_)
    · rw [h1]
      by_cases e : q = n
      · rw [e, pk_us]
      · rw [pk_un e]
        exact hd q (by omega) b
    · rw [e] at hbv
      exact hbv
theorem rd_solve {post : SX → Prop} {fd fb : Int32} {dl ch sp ah bv : Nat → Int32} (ho : ∀ j, oc j = nI (ow j)) (hok : ∀ j, rd_ok (ow j)) (hp : ∀ i, pc i = nI (pr i)) (hpk : ∀ i, rd_ok (pr i)) (h0 : fs = 0 ∨ rd_Sol ow pr dl fi) (H : ∀ (fs fd fb : Int32) (dl al ch sp ah bv fi : Nat → Int32), rd_Sol ow pr dl fi → post (fs, fd, fb, oc, pc, dl, al, ch, sp, ah, bv, fi)) : wpX_solve post (fs, fd, fb, oc, pc, dl, al, ch, sp, ah, bv, fi) := by
  refine br_c (fun e => rd_allowAll (fun al' hal dl1 h1 => Exists.intro 7 ?_)) (fun e => H _ _ _ _ _ _ _ _ _ _ (h0.resolve_left e))
  have h := rd_solve22 (post := post) (fi := fi) (fs := fs) ho hok hp hpk hal (fun fb dl ch sp ah bv fi hS => H 1 0 fb dl al' ch sp ah bv fi hS) 6 7 fb dl1 ch sp ah bv (Nat.le_refl _) (by omega) (fun q a b => absurd b (by omega)) (fun e => absurd e (by decide))
  rw [show nI 6 + (-1) = 5 from rfl] at h
  exact h
end
end
section
/-! pure laws of the three masks -/
theorem rd_p1 : ∀ x, x < 3 → ∀ d, d < 3 → (2 ^ x / 2 ^ d % 2 = 1 ↔ d = x) := by decide
theorem rd_p2 : ∀ x, x < 3 → ∀ d, d < 3 → ((7 - 2 ^ x) / 2 ^ d % 2 = 1 ↔ ¬ d = x) := by decide
theorem rd_p3 : ∀ x, x < 3 → 2 ^ x < 8 ∧ 7 - 2 ^ x < 8 := by decide
theorem rd_sh1 : ∀ x, x < 3 → (1 : Int32) <<< (nI x &&& 31) = nI (2 ^ x) := by decide +kernel
theorem rd_sh2 : ∀ x, x < 3 → (7 : Int32) &&& (((1 : Int32) <<< (nI x &&& 31)) ^^^ (-1)) = nI (7 - 2 ^ x) := by decide +kernel
/-- one variable has one value -/
def rd_a1 (i x j : Nat) : Nat := if j = i then 2 ^ x else 7
theorem rd_with_law {ow pr : Nat → Nat} {i x : Nat} (hi : i < 6) (hx : x < 3) : (rd_F (rd_gs ow pr (rd_a1 i x) false 0) (3 ^ (6 - 0))).1 = rd_W ow pr i x := by
  refine congrArg Prod.fst (rd_F_congr (fun m _ => rd_g_congr ?_ (fun _ => rfl)))
  constructor
  · intro h
    have h1 := h i (Nat.zero_le _) hi
    rw [show rd_a1 i x i = 2 ^ x from if_pos rfl] at h1
    exact (rd_p1 x hx _ (rd_dg_lt m i)).mp h1
  · intro h j _ hj
    by_cases e : j = i
    · rw [e, show rd_a1 i x i = 2 ^ x from if_pos rfl]
      exact (rd_p1 x hx _ (rd_dg_lt m i)).mpr h
    · rw [show rd_a1 i x j = 7 from if_neg e]
      exact rd_7 _ (rd_dg_lt m j)
theorem rd_zig_law {ow pr : Nat → Nat} : (rd_F (rd_gs ow pr (fun _ => 7) true 0) (3 ^ (6 - 0))).1 = rd_Z ow pr := by
  refine congrArg Prod.fst (rd_F_congr (fun m _ => ?_))
  rw [rd_gs7]
  obtain ⟨h1, h2⟩ := rd_zz_C (O := rd_O ow) (pr := pr) (m := m) 5 0
  by_cases hz : rd_zz m 0 5
  · rw [rd_g_t (q := fun m => rd_zz m 0 5) hz]
    exact congrArg rd_cp (h1 hz)
  · rw [rd_g_f (q := fun m => rd_zz m 0 5) hz]
    have h3 : 100000 ≤ rd_cs ow pr true 0 m := h2 hz
    have h4 := rd_cp_le (rd_cs ow pr true 0 m)
    have h5 := rd_cp_ge (Nat.le_refl 100000) h3
    omega
/-- the least of f i .. f (i + n - 1) and l -/
def rd_m (f : Nat → Nat) : Nat → Nat → Nat → Nat
  | _, 0, l => l
  | i, n + 1, l => rd_m f (i + 1) n (if f i < l then f i else l)
theorem rd_m_le {f : Nat → Nat} : ∀ (n i l : Nat), rd_m f i n l ≤ l := by
  intro n
  induction n with
  | zero => intro i l; exact Nat.le_refl _
  | succ n ih =>
    intro i l
    have h := ih (i + 1) (if f i < l then f i else l)
    have h2 : (if f i < l then f i else l) ≤ l := by split <;> omega
    exact Nat.le_trans h h2
theorem rd_m_lb {f : Nat → Nat} : ∀ (n i l j : Nat), i ≤ j → j < i + n → rd_m f i n l ≤ f j := by
  intro n
  induction n with
  | zero => intro i l j a b; omega
  | succ n ih =>
    intro i l j a b
    show rd_m f (i + 1) n (if f i < l then f i else l) ≤ f j
    by_cases e : j = i
    · rw [e]
      have h2 : (if f i < l then f i else l) ≤ f i := by split <;> omega
      exact Nat.le_trans (rd_m_le n (i + 1) _) h2
    · exact ih (i + 1) _ j (by omega) (by omega)
theorem rd_m_at {f : Nat → Nat} : ∀ (n i l : Nat), rd_m f i n l = l ∨ ∃ j, i ≤ j ∧ j < i + n ∧ rd_m f i n l = f j := by
  intro n
  induction n with
  | zero => intro i l; exact Or.inl rfl
  | succ n ih =>
    intro i l
    rcases ih (i + 1) (if f i < l then f i else l) with h | ⟨j, a, b, c⟩
    · by_cases hl : f i < l
      · rw [if_pos hl] at h
        refine Or.inr ⟨i, Nat.le_refl _, by omega, ?_⟩
        show rd_m f (i + 1) n (if f i < l then f i else l) = f i
        rw [if_pos hl]; exact h
      · rw [if_neg hl] at h
        refine Or.inl ?_
        show rd_m f (i + 1) n (if f i < l then f i else l) = l
        rw [if_neg hl]; exact h
    · exact Or.inr ⟨j, by omega, by omega, c⟩
/-- the first i values as in F, value i another -/
def rd_a2 (F i j : Nat) : Nat := if j < i then 2 ^ rd_dg F j else if j = i then 7 - 2 ^ rd_dg F j else 7
theorem rd_a2_lt {F i j : Nat} (h : j < i) : rd_a2 F i j = 2 ^ rd_dg F j := if_pos h
theorem rd_a2_eq {F i : Nat} : rd_a2 F i i = 7 - 2 ^ rd_dg F i := by
  unfold rd_a2
  rw [if_neg (Nat.lt_irrefl i), if_pos rfl]
theorem rd_a2_gt {F i j : Nat} (h : i < j) : rd_a2 F i j = 7 := by
  unfold rd_a2
  rw [if_neg (by omega), if_neg (by omega)]
theorem rd_a2_iff {F i m : Nat} (hi : i < 6) : rd_al (rd_a2 F i) 0 6 m ↔ (∀ j, j < i → rd_dg m j = rd_dg F j) ∧ ¬ rd_dg m i = rd_dg F i := by
  constructor
  · intro h
    refine ⟨fun j hj => ?_, ?_⟩
    · have h1 := h j (Nat.zero_le _) (by omega)
      rw [rd_a2_lt hj] at h1
      exact (rd_p1 _ (rd_dg_lt F j) _ (rd_dg_lt m j)).mp h1
    · have h1 := h i (Nat.zero_le _) hi
      rw [rd_a2_eq] at h1
      exact (rd_p2 _ (rd_dg_lt F i) _ (rd_dg_lt m i)).mp h1
  · intro h j _ hj
    rcases Nat.lt_trichotomy j i with e | e | e
    · rw [rd_a2_lt e]
      exact (rd_p1 _ (rd_dg_lt F j) _ (rd_dg_lt m j)).mpr (h.1 j e)
    · rw [e, rd_a2_eq]
      exact (rd_p2 _ (rd_dg_lt F i) _ (rd_dg_lt m i)).mpr h.2
    · rw [rd_a2_gt e]
      exact rd_7 _ (rd_dg_lt m j)
/-- six digits give the number -/
theorem rd_dg_inj {m F : Nat} (hm : m < 729) (hF : F < 729) (h : ∀ j, j < 6 → rd_dg m j = rd_dg F j) : m = F := by
  have h0 : m / 243 % 3 = F / 243 % 3 := h 0 (by decide)
  have h1 : m / 81 % 3 = F / 81 % 3 := h 1 (by decide)
  have h2 : m / 27 % 3 = F / 27 % 3 := h 2 (by decide)
  have h3 : m / 9 % 3 = F / 9 % 3 := h 3 (by decide)
  have h4 : m / 3 % 3 = F / 3 % 3 := h 4 (by decide)
  have h5 : m / 1 % 3 = F / 1 % 3 := h 5 (by decide)
  omega
theorem rd_first_diff {m F : Nat} : ∀ n, (∀ j, j < n → rd_dg m j = rd_dg F j) ∨ ∃ i, i < n ∧ (∀ j, j < i → rd_dg m j = rd_dg F j) ∧ ¬ rd_dg m i = rd_dg F i := by
  intro n
  induction n with
  | zero => exact Or.inl (fun j h => absurd h (by omega))
  | succ n ih =>
    rcases ih with h | ⟨i, a, b, c⟩
    · by_cases e : rd_dg m n = rd_dg F n
      · refine Or.inl (fun j hj => ?_)
        by_cases ej : j = n
        · rw [ej]; exact e
        · exact h j (by omega)
      · exact Or.inr ⟨n, by omega, h, e⟩
    · exact Or.inr ⟨i, by omega, b, c⟩
noncomputable def rd_f2 (ow pr : Nat → Nat) (i : Nat) : Nat := (rd_F (rd_gs ow pr (rd_a2 (rd_D ow pr 0).2 i) false 0) (3 ^ (6 - 0))).1
theorem rd_second_law {ow pr : Nat → Nat} (hD : (rd_D ow pr 0).1 < 100000) : rd_m (rd_f2 ow pr) 0 6 100000 = rd_2 ow pr := by
  have hF : (rd_D ow pr 0).2 < 729 := (rd_F_at hD).1
  have hw : rd_w (rd_D ow pr 0) = nI (rd_D ow pr 0).2 := rd_w_t hD
  have hq : ∀ m, m < 729 → (¬ nI m = rd_w (rd_D ow pr 0) ↔ ¬ m = (rd_D ow pr 0).2) := by
    intro m hm
    rw [hw, nI_eq (by omega) (by omega)]
  generalize hFF : (rd_D ow pr 0).2 = F at hF hq
  apply Nat.le_antisymm
  · -- each assignment but F is met
    have hb : rd_m (rd_f2 ow pr) 0 6 100000 ≤ 100000 := rd_m_le 6 0 100000
    by_cases h2 : rd_2 ow pr < 100000
    · obtain ⟨a, b⟩ := rd_F_at (g := rd_g (fun m => ¬ nI m = rd_w (rd_D ow pr 0)) (rd_c ow pr 0)) (N := 729) h2
      generalize (rd_F (rd_g (fun m => ¬ nI m = rd_w (rd_D ow pr 0)) (rd_c ow pr 0)) 729).2 = m at a b
      have b' : rd_2 ow pr = rd_g (fun m => ¬ nI m = rd_w (rd_D ow pr 0)) (rd_c ow pr 0) m := b
      by_cases e : ¬ nI m = rd_w (rd_D ow pr 0)
      · rw [rd_g_t (q := fun m => ¬ nI m = rd_w (rd_D ow pr 0)) e] at b'
        have hne := (hq m a).mp e
        rcases rd_first_diff (m := m) (F := F) 6 with h | ⟨i, i1, i2, i3⟩
        · exact absurd (rd_dg_inj a hF h) hne
        · have hA : rd_al (rd_a2 F i) 0 6 m := (rd_a2_iff i1).mpr ⟨i2, i3⟩
          have h5 : rd_f2 ow pr i ≤ rd_gs ow pr (rd_a2 (rd_D ow pr 0).2 i) false 0 m := rd_F_lb (g := rd_gs ow pr (rd_a2 (rd_D ow pr 0).2 i) false 0) (N := 3 ^ (6 - 0)) a
          rw [hFF, show rd_gs ow pr (rd_a2 F i) false 0 m = rd_cp (rd_c ow pr 0 m) from rd_g_t (q := rd_al (rd_a2 F i) 0 6) hA, ← b'] at h5
          exact Nat.le_trans (rd_m_lb 6 0 100000 i (Nat.zero_le _) (by omega)) h5
      · rw [rd_g_f (q := fun m => ¬ nI m = rd_w (rd_D ow pr 0)) e] at b'
        omega
    · omega
  · have hb : rd_2 ow pr ≤ 100000 := rd_F_le
    rcases rd_m_at (f := rd_f2 ow pr) 6 0 100000 with h | ⟨i, i1, i2, i3⟩
    · rw [h]; exact hb
    · rw [i3]
      by_cases h2 : rd_f2 ow pr i < 100000
      · obtain ⟨a, b⟩ := rd_F_at (g := rd_gs ow pr (rd_a2 (rd_D ow pr 0).2 i) false 0) (N := 3 ^ (6 - 0)) h2
        generalize (rd_F (rd_gs ow pr (rd_a2 (rd_D ow pr 0).2 i) false 0) (3 ^ (6 - 0))).2 = m at a b
        have a' : m < 729 := a
        have b' : rd_f2 ow pr i = rd_g (rd_al (rd_a2 (rd_D ow pr 0).2 i) 0 6) (rd_cs ow pr false 0) m := b
        rw [hFF] at b'
        by_cases e : rd_al (rd_a2 F i) 0 6 m
        · rw [rd_g_t e] at b'
          have hd := (rd_a2_iff (by omega)).mp e
          have hne : ¬ m = F := fun z => hd.2 (by rw [z])
          have h5 : rd_2 ow pr ≤ rd_g (fun m => ¬ nI m = rd_w (rd_D ow pr 0)) (rd_c ow pr 0) m := rd_F_lb (g := rd_g (fun m => ¬ nI m = rd_w (rd_D ow pr 0)) (rd_c ow pr 0)) a'
          rw [rd_g_t (q := fun m => ¬ nI m = rd_w (rd_D ow pr 0)) ((hq m a').mpr hne)] at h5
          rw [b']
          exact h5
        · rw [rd_g_f e] at b'
          omega
      · omega
/-- no assignment at all: then no second -/
theorem rd_second_none {ow pr : Nat → Nat} (hD : ¬ (rd_D ow pr 0).1 < 100000) : rd_v (rd_2 ow pr) = -4 := by
  refine rd_v_f (fun h => ?_)
  obtain ⟨a, b⟩ := rd_F_at (g := rd_g (fun m => ¬ nI m = rd_w (rd_D ow pr 0)) (rd_c ow pr 0)) (N := 729) h
  generalize (rd_F (rd_g (fun m => ¬ nI m = rd_w (rd_D ow pr 0)) (rd_c ow pr 0)) 729).2 = m at a b
  have b' : rd_2 ow pr = rd_g (fun m => ¬ nI m = rd_w (rd_D ow pr 0)) (rd_c ow pr 0) m := b
  have h5 : (rd_D ow pr 0).1 ≤ rd_cp (rd_c ow pr 0 m) := rd_F_lb (g := fun m => rd_cp (rd_c ow pr 0 m)) (N := 3 ^ (6 - 0)) a
  by_cases e : ¬ nI m = rd_w (rd_D ow pr 0)
  · rw [rd_g_t (q := fun m => ¬ nI m = rd_w (rd_D ow pr 0)) e] at b'
    omega
  · rw [rd_g_f (q := fun m => ¬ nI m = rd_w (rd_D ow pr 0)) e] at b'
    omega
/-- the count of the values whose least cost is b -/
def rd_ct (f : Nat → Nat) (b : Nat) : Nat → Nat → Nat → Nat
  | _, 0, a => a
  | x, n + 1, a => rd_ct f b (x + 1) n (if f x = b ∧ b < 100000 then a + 1 else a)
theorem rd_ct_none {f : Nat → Nat} {b : Nat} (h : ¬ b < 100000) : ∀ (n x a : Nat), rd_ct f b x n a = a := by
  intro n
  induction n with
  | zero => intro x a; rfl
  | succ n ih =>
    intro x a
    show rd_ct f b (x + 1) n (if f x = b ∧ b < 100000 then a + 1 else a) = a
    rw [if_neg (fun z => h z.2)]
    exact ih (x + 1) a
/-- settled's answer -/
def rd_sv (f : Nat → Nat) (b x n a : Nat) : Int32 := if rd_ct f b x n a = 1 then 1 else 0
end
section
/-! the questions -/
theorem rd_bv_t {post : Int32 → Prop} {u : SX} {i : Nat} (hi : i < 6) (h : post 0) : wpX_badVariable post u (nI i) := by
  obtain ⟨fs, fd, fb, oc, pc, dl, al, ch, sp, ah, bv, fi⟩ := u
  exact br_f (nI_pos (by omega)) (br_t (nI_lt (b := 6) hi (by decide)) h)
theorem rd_bv_f {post : Int32 → Prop} {u : SX} {v : Int32} (hv : v < 0 ∨ nI 6 ≤ v) (h : post 1) : wpX_badVariable post u v := by
  obtain ⟨fs, fd, fb, oc, pc, dl, al, ch, sp, ah, bv, fi⟩ := u
  by_cases h0 : v < 0
  · exact br_t h0 h
  · refine br_f h0 (br_f ?_ h)
    rcases hv with hv | hv
    · exact absurd hv h0
    · exact Int32.not_lt.mpr hv
section
variable {oc pc : Nat → Int32} {ow pr : Nat → Nat} {post : Int32 → SX → Prop}
theorem rd_Xdoll {fs fd fb : Int32} {dl al ch sp ah bv fi : Nat → Int32} {i : Nat} (ho : ∀ j, oc j = nI (ow j)) (hok : ∀ j, rd_ok (ow j)) (hp : ∀ i, pc i = nI (pr i)) (hpk : ∀ i, rd_ok (pr i)) (hi : i < 6) (h0 : fs = 0 ∨ rd_Sol ow pr dl fi) (H : ∀ (fs fd fb : Int32) (dl al ch sp ah bv fi : Nat → Int32), rd_Sol ow pr dl fi → post (rd_v (rd_D ow pr i).1) (fs, fd, fb, oc, pc, dl, al, ch, sp, ah, bv, fi)) : wpX_doll post (fs, fd, fb, oc, pc, dl, al, ch, sp, ah, bv, fi) (nI i) := by
  unfold wpX_doll
  dsimp only
  refine rd_bv_t hi (br_t rfl (rd_solve ho hok hp hpk h0 (fun fs fd fb dl al ch sp ah bv fi hS => And.intro (pk_in i 7 (by omega)) ?_)))
  dsimp only
  rw [nI_clamp (by omega), hS.1 i hi]
  exact rd_answer _ (Nat.lt_of_le_of_lt rd_D_le (by decide)) (H fs fd fb dl al ch sp ah bv fi hS)
theorem rd_Xvalue {fs fd fb : Int32} {dl al ch sp ah bv fi : Nat → Int32} {i : Nat} (ho : ∀ j, oc j = nI (ow j)) (hok : ∀ j, rd_ok (ow j)) (hp : ∀ i, pc i = nI (pr i)) (hpk : ∀ i, rd_ok (pr i)) (hi : i < 6) (h0 : fs = 0 ∨ rd_Sol ow pr dl fi) (H1 : (rd_D ow pr 0).1 < 100000 → ∀ (fs fd fb : Int32) (dl al ch sp ah bv fi : Nat → Int32), rd_Sol ow pr dl fi → post (nI (rd_dg (rd_D ow pr 0).2 i)) (fs, fd, fb, oc, pc, dl, al, ch, sp, ah, bv, fi)) (H2 : ¬ (rd_D ow pr 0).1 < 100000 → ∀ (fs fd fb : Int32) (dl al ch sp ah bv fi : Nat → Int32), rd_Sol ow pr dl fi → post (-4) (fs, fd, fb, oc, pc, dl, al, ch, sp, ah, bv, fi)) : wpX_value post (fs, fd, fb, oc, pc, dl, al, ch, sp, ah, bv, fi) (nI i) := by
  have hD : (rd_D ow pr 0).1 < 2 ^ 31 := Nat.lt_of_le_of_lt rd_D_le (by decide)
  unfold wpX_value
  dsimp only
  refine rd_bv_t hi (br_t rfl (rd_solve ho hok hp hpk h0 (fun fs fd fb dl al ch sp ah bv fi hS => pk_lt (rd_D ow pr 0).1 100000 (fun h => And.intro (pk_in i 6 hi) ?_) (fun h => H2 (by omega) fs fd fb dl al ch sp ah bv fi hS) (hx := hS.1 0 (by decide)))))
  dsimp only
  rw [nI_clamp (by omega), hS.2 h i hi]
  exact H1 h fs fd fb dl al ch sp ah bv fi hS
theorem rd_Xwith {fs fd fb : Int32} {dl al ch sp ah bv fi : Nat → Int32} {i x : Nat} (ho : ∀ j, oc j = nI (ow j)) (hok : ∀ j, rd_ok (ow j)) (hp : ∀ i, pc i = nI (pr i)) (hpk : ∀ i, rd_ok (pr i)) (hi : i < 6) (hx : x < 3) (h0 : fs = 0 ∨ rd_Sol ow pr dl fi) (H : ∀ (fs fd fb : Int32) (dl al ch sp ah bv fi : Nat → Int32), rd_Sol ow pr dl fi → post (rd_v (rd_W ow pr i x)) (fs, fd, fb, oc, pc, dl, al, ch, sp, ah, bv, fi)) : wpX_with post (fs, fd, fb, oc, pc, dl, al, ch, sp, ah, bv, fi) (nI i) (nI x) := by
  unfold wpX_with
  dsimp only
  refine rd_bv_t hi (br_t rfl (br_f (nI_pos (by omega)) (br_t (nI_le (b := 2) (by omega) (by decide)) (rd_solve ho hok hp hpk h0 (fun fs fd fb dl al ch sp ah bv fi hS => rd_allowAll (fun al' hal => And.intro (pk_in i 6 hi) (fun al1 h1 => rd_search (s := 0) (df := false) (aw := rd_a1 i x) ho hok hp hpk rfl (fun j hj => ?_) (rd_hdl hpk (fun q _ b => hS.1 q b)) (by decide) (fun ch' sp' ah' bv' _ => ?_))))))))
  · dsimp only at h1
    rw [nI_clamp (by omega), rd_sh1 x hx] at h1
    rw [h1]
    by_cases e : j = i
    · rw [e, pk_us, show rd_a1 i x i = 2 ^ x from if_pos rfl]
      exact ⟨rfl, (rd_p3 x hx).1⟩
    · rw [pk_un e, hal j hj, show rd_a1 i x j = 7 from if_neg e]
      exact ⟨rfl, by decide⟩
  · refine rd_answer _ (Nat.lt_of_le_of_lt rd_F_le (by decide)) ?_
    rw [rd_with_law hi hx]
    exact H _ _ _ _ _ _ _ _ _ _ hS
theorem rd_Xzigzag {fs fd fb : Int32} {dl al ch sp ah bv fi : Nat → Int32} (ho : ∀ j, oc j = nI (ow j)) (hok : ∀ j, rd_ok (ow j)) (hp : ∀ i, pc i = nI (pr i)) (hpk : ∀ i, rd_ok (pr i)) (h0 : fs = 0 ∨ rd_Sol ow pr dl fi) (H : ∀ (fs fd fb : Int32) (dl al ch sp ah bv fi : Nat → Int32), rd_Sol ow pr dl fi → post (rd_v (rd_Z ow pr)) (fs, fd, fb, oc, pc, dl, al, ch, sp, ah, bv, fi)) : wpX_zigzag post (fs, fd, fb, oc, pc, dl, al, ch, sp, ah, bv, fi) := by
  unfold wpX_zigzag
  dsimp only
  refine rd_solve ho hok hp hpk h0 (fun fs fd fb dl al ch sp ah bv fi hS => rd_allowAll (fun al' hal => rd_search (s := 0) (df := true) (aw := fun _ => 7) ho hok hp hpk rfl (fun j hj => ⟨hal j hj, by decide⟩) (rd_hdl hpk (fun q _ b => hS.1 q b)) (by decide) (fun ch' sp' ah' bv' _ => ?_)))
  refine rd_answer _ (Nat.lt_of_le_of_lt rd_F_le (by decide)) ?_
  rw [rd_zig_law]
  exact H _ _ _ _ _ _ _ _ _ _ hS
theorem rd_sec35 {J : Int32 → Int32 → Int32 → Int32 → Int32 → (Nat → Int32) → (Nat → Int32) → (Nat → Int32) → (Nat → Int32) → (Nat → Int32) → (Nat → Int32) → (Nat → Int32) → (Nat → Int32) → (Nat → Int32) → Prop} {F i l : Nat} {fs fb : Int32} {dl ch sp ah bv fi : Nat → Int32} (ho : ∀ j, oc j = nI (ow j)) (hok : ∀ j, rd_ok (ow j)) (hp : ∀ i, pc i = nI (pr i)) (hpk : ∀ i, rd_ok (pr i)) (hi : i < 6) (hl : l ≤ 100000) (hS : rd_Sol ow pr dl fi) (hfi : ∀ j, j < 6 → fi j = nI (rd_dg F j))
    (H : ∀ (fb : Int32) (al ch sp ah bv : Nat → Int32), J (nI (if (rd_F (rd_gs ow pr (rd_a2 F i) false 0) (3 ^ (6 - 0))).1 < l then (rd_F (rd_gs ow pr (rd_a2 F i) false 0) (3 ^ (6 - 0))).1 else l)) (nI (i + 1)) fs 0 fb oc pc dl al ch sp ah bv fi) :
    ∀ (n j fuel : Nat) (al : Nat → Int32), j + n = i → n < fuel → (∀ q, q < j → al q = nI (2 ^ rd_dg F q)) → (∀ q, j ≤ q → q < 6 → al q = 7) → wX_second_35 post J (nI l) (nI i) fs 0 fb fuel (nI j) oc pc dl al ch sp ah bv fi := by
  intro n
  induction n with
  | zero =>
    intro j fuel al hj hf h1 h2
    obtain ⟨fuel, rfl⟩ : ∃ n', fuel = n' + 1 := ⟨fuel - 1, by omega⟩
    have e : j = i := by omega
    subst e
    have hb : (rd_F (rd_gs ow pr (rd_a2 F j) false 0) (3 ^ (6 - 0))).1 < 2 ^ 31 := Nat.lt_of_le_of_lt rd_F_le (by decide)
    refine br_t (nI_le (Nat.le_refl _) (by omega)) (And.intro (pk_in j 6 hi) (And.intro (pk_in j 6 hi) (fun al1 hA => rd_search (s := 0) (df := false) (aw := rd_a2 F j) ho hok hp hpk rfl (fun q hq => ?_) (rd_hdl hpk (fun q _ b => hS.1 q b)) (by decide) (fun ch' sp' ah' bv' _ => pk_le l (rd_F (rd_gs ow pr (rd_a2 F j) false 0) (3 ^ (6 - 0))).1 (fun h y hy => ?_) (fun h y hy => ?_)))))
    · rw [nI_clamp (by omega), hfi j hi, rd_sh2 _ (rd_dg_lt F j)] at hA
      rw [hA]
      rcases Nat.lt_trichotomy q j with e | e | e
      · rw [pk_un (by omega), h1 q e, rd_a2_lt e]
        exact ⟨rfl, (rd_p3 _ (rd_dg_lt F q)).1⟩
      · rw [e, pk_us, rd_a2_eq]
        exact ⟨rfl, (rd_p3 _ (rd_dg_lt F j)).2⟩
      · rw [pk_un (by omega), h2 q (by omega) hq, rd_a2_gt e]
        exact ⟨rfl, by decide⟩
    · rw [hy, nI_1]
      have h9 := H (nI (rd_F (rd_gs ow pr (rd_a2 F j) false 0) (3 ^ (6 - 0))).1) al1 ch' sp' ah' bv'
      rw [if_neg (by omega)] at h9
      exact h9
    · rw [hy, nI_1]
      have h9 := H (nI (rd_F (rd_gs ow pr (rd_a2 F j) false 0) (3 ^ (6 - 0))).1) al1 ch' sp' ah' bv'
      rw [if_pos h] at h9
      exact h9
  | succ n ih =>
    intro j fuel al hj hf h1 h2
    obtain ⟨fuel, rfl⟩ : ∃ n', fuel = n' + 1 := ⟨fuel - 1, by omega⟩
    have hj6 : j < 6 := by omega
    refine br_f (nI_ge (by omega) (by omega)) (And.intro (pk_in j 6 hj6) (And.intro (pk_in j 6 hj6) (fun al1 hA y hy => ?_)))
    rw [nI_clamp (by omega), hfi j hj6, rd_sh1 _ (rd_dg_lt F j)] at hA
    rw [hy, nI_1]
    refine ih (j + 1) fuel al1 (by omega) (by omega) (fun q hq => ?_) (fun q a b => ?_)
    · rw [hA]
      by_cases e : q = j
      · rw [e, pk_us]
      · rw [pk_un e]
        exact h1 q (by omega)
    · rw [hA, pk_un (by omega)]
      exact h2 q (by omega) b
theorem rd_sec23 (ho : ∀ j, oc j = nI (ow j)) (hok : ∀ j, rd_ok (ow j)) (hp : ∀ i, pc i = nI (pr i)) (hpk : ∀ i, rd_ok (pr i)) (hD : (rd_D ow pr 0).1 < 100000) : ∀ (n i fuel l : Nat) (fs fd fb : Int32) (dl al ch sp ah bv fi : Nat → Int32), i + n = 6 → n < fuel → l ≤ 100000 → rd_Sol ow pr dl fi → (∀ (fs fd fb : Int32) (dl al ch sp ah bv fi : Nat → Int32), rd_Sol ow pr dl fi → post (rd_v (rd_m (rd_f2 ow pr) i n l)) (fs, fd, fb, oc, pc, dl, al, ch, sp, ah, bv, fi)) → wX_second_23 post fuel (nI l) (nI i) fs fd fb oc pc dl al ch sp ah bv fi := by
  intro n
  induction n with
  | zero =>
    intro i fuel l fs fd fb dl al ch sp ah bv fi hi hf hl hS H
    obtain ⟨fuel, rfl⟩ : ∃ n', fuel = n' + 1 := ⟨fuel - 1, by omega⟩
    exact br_t (nI_le (a := 6) (by omega) (by omega)) (rd_answer l (by omega) (H fs fd fb dl al ch sp ah bv fi hS))
  | succ n ih =>
    intro i fuel l fs fd fb dl al ch sp ah bv fi hi hf hl hS H
    obtain ⟨fuel, rfl⟩ : ∃ n', fuel = n' + 1 := ⟨fuel - 1, by omega⟩
    refine br_f (nI_ge (b := 6) (by omega) (by decide)) (rd_allowAll (fun al' hal => Exists.intro 7 (rd_sec35 (F := (rd_D ow pr 0).2) ho hok hp hpk (by omega) hl hS (fun j hj => hS.2 hD j hj) (fun fb al ch sp ah bv => ?_) i 0 7 al' (by omega) (by omega) (fun q hq => absurd hq (by omega)) (fun q _ b => hal q b))))
    refine ih (i + 1) fuel _ fs 0 fb dl al ch sp ah bv fi (by omega) (by omega) ?_ hS H
    split
    · exact rd_F_le
    · exact hl
theorem rd_Xsecond {fs fd fb : Int32} {dl al ch sp ah bv fi : Nat → Int32} (ho : ∀ j, oc j = nI (ow j)) (hok : ∀ j, rd_ok (ow j)) (hp : ∀ i, pc i = nI (pr i)) (hpk : ∀ i, rd_ok (pr i)) (h0 : fs = 0 ∨ rd_Sol ow pr dl fi) (H : ∀ (fs fd fb : Int32) (dl al ch sp ah bv fi : Nat → Int32), rd_Sol ow pr dl fi → post (rd_v (rd_2 ow pr)) (fs, fd, fb, oc, pc, dl, al, ch, sp, ah, bv, fi)) : wpX_second post (fs, fd, fb, oc, pc, dl, al, ch, sp, ah, bv, fi) := by
  have hD : (rd_D ow pr 0).1 < 2 ^ 31 := Nat.lt_of_le_of_lt rd_D_le (by decide)
  unfold wpX_second
  dsimp only
  refine rd_solve ho hok hp hpk h0 (fun fs fd fb dl al ch sp ah bv fi hS => pk_lt (rd_D ow pr 0).1 100000 (fun h => Exists.intro 7 (rd_sec23 ho hok hp hpk h 6 0 7 100000 fs fd fb dl al ch sp ah bv fi (by omega) (by omega) (Nat.le_refl _) hS (fun fs fd fb dl al ch sp ah bv fi hS => ?_))) (fun h => ?_) (hx := hS.1 0 (by decide)))
  · rw [rd_second_law h]
    exact H fs fd fb dl al ch sp ah bv fi hS
  · have h9 := H fs fd fb dl al ch sp ah bv fi hS
    rw [rd_second_none (by omega)] at h9
    exact h9
theorem rd_set20 {i b : Nat} (ho : ∀ j, oc j = nI (ow j)) (hok : ∀ j, rd_ok (ow j)) (hp : ∀ i, pc i = nI (pr i)) (hpk : ∀ i, rd_ok (pr i)) (hi : i < 6) (hb : b ≤ 100000) : ∀ (n x fuel a : Nat) (fs fd fb : Int32) (dl al ch sp ah bv fi : Nat → Int32), x + n = 3 → n < fuel → a + n ≤ 3 → rd_Sol ow pr dl fi → (∀ (fs fd fb : Int32) (dl al ch sp ah bv fi : Nat → Int32), rd_Sol ow pr dl fi → post (rd_sv (rd_W ow pr i) b x n a) (fs, fd, fb, oc, pc, dl, al, ch, sp, ah, bv, fi)) → wX_settled_20 post (nI i) (rd_v b) fuel (nI a) (nI x) fs fd fb oc pc dl al ch sp ah bv fi := by
  intro n
  induction n with
  | zero =>
    intro x fuel a fs fd fb dl al ch sp ah bv fi hx hf ha hS H
    obtain ⟨fuel, rfl⟩ : ∃ n', fuel = n' + 1 := ⟨fuel - 1, by omega⟩
    have h9 := H fs fd fb dl al ch sp ah bv fi hS
    refine br_t (nI_le (a := 3) (by omega) (by omega)) (pk_eq a 1 (fun e => ?_) (fun e => ?_))
    · rw [show rd_sv (rd_W ow pr i) b x 0 a = 1 from if_pos e] at h9
      exact h9
    · rw [show rd_sv (rd_W ow pr i) b x 0 a = 0 from if_neg e] at h9
      exact h9
  | succ n ih =>
    intro x fuel a fs fd fb dl al ch sp ah bv fi hx hf ha hS H
    obtain ⟨fuel, rfl⟩ : ∃ n', fuel = n' + 1 := ⟨fuel - 1, by omega⟩
    have hW : rd_W ow pr i x ≤ 100000 := rd_F_le
    have H' : ∀ (fs fd fb : Int32) (dl al ch sp ah bv fi : Nat → Int32), rd_Sol ow pr dl fi → post (rd_sv (rd_W ow pr i) b (x + 1) n (if rd_W ow pr i x = b ∧ b < 100000 then a + 1 else a)) (fs, fd, fb, oc, pc, dl, al, ch, sp, ah, bv, fi) := H
    refine br_f (nI_ge (b := 3) (by omega) (by decide)) (rd_Xwith ho hok hp hpk hi (by omega) (Or.inr hS) (fun fs fd fb dl al ch sp ah bv fi hS => ?_))
    by_cases e : rd_W ow pr i x = b
    · refine br_t (by rw [e]) ?_
      rw [e]
      by_cases h : b < 100000
      · rw [if_pos ⟨e, h⟩] at H'
        rw [rd_v_t h]
        refine br_f (nI_pos (by omega)) (fun y hy z hz => ?_)
        rw [hy, hz, nI_1, nI_1, ← rd_v_t h]
        exact ih (x + 1) fuel (a + 1) fs fd fb dl al ch sp ah bv fi (by omega) (by omega) (by omega) hS H'
      · rw [if_neg (fun z => h z.2)] at H'
        rw [rd_v_f h]
        refine br_t (by decide) (fun y hy => ?_)
        rw [hy, nI_1, ← rd_v_f h]
        exact ih (x + 1) fuel a fs fd fb dl al ch sp ah bv fi (by omega) (by omega) (by omega) hS H'
    · rw [if_neg (fun z => e z.1)] at H'
      refine br_f (fun z => e ((rd_v_eq hW hb).mp z)) (fun y hy => ?_)
      rw [hy, nI_1]
      exact ih (x + 1) fuel a fs fd fb dl al ch sp ah bv fi (by omega) (by omega) (by omega) hS H'
theorem rd_Xsettled {fs fd fb : Int32} {dl al ch sp ah bv fi : Nat → Int32} {i : Nat} (ho : ∀ j, oc j = nI (ow j)) (hok : ∀ j, rd_ok (ow j)) (hp : ∀ i, pc i = nI (pr i)) (hpk : ∀ i, rd_ok (pr i)) (hi : i < 6) (h0 : fs = 0 ∨ rd_Sol ow pr dl fi) (H : ∀ (fs fd fb : Int32) (dl al ch sp ah bv fi : Nat → Int32), rd_Sol ow pr dl fi → post (rd_sv (rd_W ow pr i) (rd_D ow pr 0).1 0 3 0) (fs, fd, fb, oc, pc, dl, al, ch, sp, ah, bv, fi)) : wpX_settled post (fs, fd, fb, oc, pc, dl, al, ch, sp, ah, bv, fi) (nI i) := by
  unfold wpX_settled wpX_cheapest
  dsimp only
  refine rd_bv_t hi (br_t rfl (rd_Xdoll (i := 0) ho hok hp hpk (by decide) h0 (fun fs fd fb dl al ch sp ah bv fi hS => Exists.intro 4 ?_)))
  exact rd_set20 ho hok hp hpk hi rd_D_le 3 0 4 0 fs fd fb dl al ch sp ah bv fi (by omega) (by omega) (by omega) hS H
end
section
variable {a_owns a_pairs : Nat → Int32} {ow pr : Nat → Nat} {post : Int32 → Prop}
theorem rd_Yvalue {i : Nat} (ho : ∀ j, a_owns j = nI (ow j)) (hok : ∀ j, rd_ok (ow j)) (hp : ∀ j, a_pairs j = nI (pr j)) (hpk : ∀ j, rd_ok (pr j)) (hi : i < 6) (H1 : (rd_D ow pr 0).1 < 100000 → post (nI (rd_dg (rd_D ow pr 0).2 i))) (H2 : ¬ (rd_D ow pr 0).1 < 100000 → post (-4)) : wpY_value post (a_owns, a_pairs) (nI i) := by
  unfold wpY_value
  dsimp only
  refine rd_isVar_t hi (br_f (by decide) (rd_Yfirst ho hok hp hpk ?_))
  by_cases h : (rd_D ow pr 0).1 < 100000
  · have hF : (rd_D ow pr 0).2 < 729 := (rd_F_at h).1
    rw [rd_w_t h]
    exact br_f (rd_nI_m4 (by omega)) (rd_dig (by omega) (by omega) (H1 h))
  · rw [rd_w_f h]
    exact br_t rfl (H2 h)
theorem rd_set26 {i b : Nat} (ho : ∀ j, a_owns j = nI (ow j)) (hok : ∀ j, rd_ok (ow j)) (hp : ∀ j, a_pairs j = nI (pr j)) (hpk : ∀ j, rd_ok (pr j)) (hi : i < 6) (hb : b < 100000) : ∀ (n x fuel a : Nat), x + n = 3 → n < fuel → a + n ≤ 3 → post (rd_sv (rd_W ow pr i) b x n a) → wY_settled_26 post (nI i) (rd_v b) a_owns a_pairs fuel (nI a) (nI x) := by
  intro n
  induction n with
  | zero =>
    intro x fuel a hx hf ha h9
    obtain ⟨fuel, rfl⟩ : ∃ n', fuel = n' + 1 := ⟨fuel - 1, by omega⟩
    refine br_t (nI_le (a := 3) (by omega) (by omega)) (pk_eq a 1 (fun e => ?_) (fun e => ?_))
    · rw [show rd_sv (rd_W ow pr i) b x 0 a = 1 from if_pos e] at h9
      exact h9
    · rw [show rd_sv (rd_W ow pr i) b x 0 a = 0 from if_neg e] at h9
      exact h9
  | succ n ih =>
    intro x fuel a hx hf ha H
    obtain ⟨fuel, rfl⟩ : ∃ n', fuel = n' + 1 := ⟨fuel - 1, by omega⟩
    have hW : rd_W ow pr i x ≤ 100000 := rd_F_le
    have H' : post (rd_sv (rd_W ow pr i) b (x + 1) n (if rd_W ow pr i x = b ∧ b < 100000 then a + 1 else a)) := H
    refine br_f (nI_ge (b := 3) (by omega) (by decide)) (rd_Ywith ho hok hp hpk hi (by omega) ?_)
    by_cases e : rd_W ow pr i x = b
    · rw [if_pos ⟨e, hb⟩] at H'
      refine br_t (by rw [e]) (fun y hy z hz => ?_)
      rw [hy, hz, nI_1, nI_1]
      exact ih (x + 1) fuel (a + 1) (by omega) (by omega) (by omega) H'
    · rw [if_neg (fun z => e z.1)] at H'
      refine br_f (fun z => e ((rd_v_eq hW (by omega)).mp z)) (fun y hy => ?_)
      rw [hy, nI_1]
      exact ih (x + 1) fuel a (by omega) (by omega) (by omega) H'
theorem rd_Ysettled {i : Nat} (ho : ∀ j, a_owns j = nI (ow j)) (hok : ∀ j, rd_ok (ow j)) (hp : ∀ j, a_pairs j = nI (pr j)) (hpk : ∀ j, rd_ok (pr j)) (hi : i < 6) (H : post (rd_sv (rd_W ow pr i) (rd_D ow pr 0).1 0 3 0)) : wpY_settled post (a_owns, a_pairs) (nI i) := by
  unfold wpY_settled wpY_cheapest
  dsimp only
  refine rd_Ydoll (i := 0) ho hok hp hpk (by decide) (rd_isVar_t hi (br_f (by decide) ?_))
  by_cases h : (rd_D ow pr 0).1 < 100000
  · refine br_f ?_ (Exists.intro 4 (rd_set26 ho hok hp hpk hi h 3 0 4 0 (by omega) (by omega) (by omega) H))
    rw [rd_v_t h]
    exact rd_nI_m4 (by omega)
  · refine br_t (rd_v_f h) ?_
    have e : rd_sv (rd_W ow pr i) (rd_D ow pr 0).1 0 3 0 = 0 := by
      unfold rd_sv
      rw [rd_ct_none h, if_neg (by decide)]
    rw [e] at H
    exact H
theorem rd_Ysettled_f {v : Int32} (ho : ∀ j, a_owns j = nI (ow j)) (hok : ∀ j, rd_ok (ow j)) (hp : ∀ j, a_pairs j = nI (pr j)) (hpk : ∀ j, rd_ok (pr j)) (hv : v < 0 ∨ nI 6 ≤ v) (H : post 0) : wpY_settled post (a_owns, a_pairs) v := by
  unfold wpY_settled wpY_cheapest
  dsimp only
  exact rd_Ydoll (i := 0) ho hok hp hpk (by decide) (rd_isVar_f hv (br_t rfl H))
end
end
section
/-! the methods that set costs, side by side -/
theorem rd_Ok_upd {a : Nat → Int32} {k c : Nat} (h : rd_Ok a) (hc : rd_ok c) : rd_Ok (upd a k (nI c)) := by
  intro j
  by_cases e : j = k
  · rw [e, pk_us]; exact ⟨c, hc, rfl⟩
  · rw [pk_un e]; exact h j
theorem rd_ix (v : Int32) (n : Nat) (hn : n < 2 ^ 31) : (v < 0 ∨ nI n ≤ v) ∨ ∃ j, j < n ∧ v = nI j := by
  by_cases h : v < 0
  · exact Or.inl (Or.inl h)
  · obtain ⟨j, hj, rfl⟩ := nI_of h
    by_cases h2 : j < n
    · exact Or.inr ⟨j, h2, rfl⟩
    · exact Or.inl (Or.inr (nI_le (by omega) hj))
theorem rd_gt {v : Int32} {n : Nat} (hn : n + 1 < 2 ^ 31) (h0 : ¬ v < 0) (hv : v < 0 ∨ nI (n + 1) ≤ v) : nI n < v := by
  obtain ⟨j, hj, rfl⟩ := nI_of h0
  rcases hv with hv | hv
  · exact absurd hv h0
  · rw [nI_leI hn hj] at hv
    exact nI_lt (by omega) hj
theorem rd_rng_f {A B : Prop} {v : Int32} (n : Nat) (hn : n + 1 < 2 ^ 31) (hv : v < 0 ∨ nI (n + 1) ≤ v) (h : A) : (v < 0 → A) ∧ (¬ v < 0 → ((nI n < v → A) ∧ (¬ nI n < v → B))) := by
  by_cases h0 : v < 0
  · exact br_t h0 h
  · exact br_f h0 (br_t (rd_gt hn h0 hv) h)
theorem rd_rng_t {A B : Prop} {x : Nat} (n : Nat) (hn : n + 1 < 2 ^ 31) (hx : x < n + 1) (h : B) : (nI x < 0 → A) ∧ (¬ nI x < 0 → ((nI n < nI x → A) ∧ (¬ nI n < nI x → B))) :=
  br_f (nI_pos (by omega)) (br_f (nI_nlt (by omega) (by omega)) h)
def rd_bad (v : Int32) : Prop := ¬ v = 99 ∧ (v < 0 ∨ ¬ v ≤ 30)
theorem rd_cost_cases (v : Int32) : rd_bad v ∨ ∃ c, rd_ok c ∧ v = nI c := by
  by_cases h99 : v = 99
  · exact Or.inr ⟨99, Or.inr rfl, h99⟩
  · by_cases h0 : v < 0
    · exact Or.inl ⟨h99, Or.inl h0⟩
    · obtain ⟨j, hj, rfl⟩ := nI_of h0
      by_cases h : j ≤ 30
      · exact Or.inr ⟨j, Or.inl h, rfl⟩
      · exact Or.inl ⟨h99, Or.inr (nI_ge (a := 30) (by omega) hj)⟩
theorem rd_bc_t {post : Int32 → Prop} {u : SX} {c : Nat} (hc : rd_ok c) (h : post 0) : wpX_badCost post u (nI c) := by
  obtain ⟨fs, fd, fb, oc, pc, dl, al, ch, sp, ah, bv, fi⟩ := u
  have hc' : c ≤ 99 := by unfold rd_ok at hc; omega
  refine br_f (nI_pos (by omega)) (pk_le c 30 (fun _ => h) (fun e => br_t ?_ h))
  have e2 : c = 99 := by unfold rd_ok at hc; omega
  rw [e2]; rfl
theorem rd_bc_f {post : Int32 → Prop} {u : SX} {v : Int32} (hv : rd_bad v) (h : post 1) : wpX_badCost post u v := by
  obtain ⟨fs, fd, fb, oc, pc, dl, al, ch, sp, ah, bv, fi⟩ := u
  obtain ⟨h9, h2⟩ := hv
  by_cases h0 : v < 0
  · exact br_t h0 (br_f h9 h)
  · exact br_f h0 (br_f (h2.resolve_left h0) (br_f h9 h))
theorem rd_ic_t {post : Int32 → Prop} {a_owns a_pairs : Nat → Int32} {c : Nat} (hc : rd_ok c) (h : post 1) : wpY_isCost post (a_owns, a_pairs) (nI c) := by
  have hc' : c ≤ 99 := by unfold rd_ok at hc; omega
  refine br_f (nI_pos (by omega)) (pk_le c 30 (fun _ => h) (fun e => br_t ?_ h))
  have e2 : c = 99 := by unfold rd_ok at hc; omega
  rw [e2]; rfl
theorem rd_ic_f {post : Int32 → Prop} {a_owns a_pairs : Nat → Int32} {v : Int32} (hv : rd_bad v) (h : post 0) : wpY_isCost post (a_owns, a_pairs) v := by
  obtain ⟨h9, h2⟩ := hv
  by_cases h0 : v < 0
  · exact br_t h0 (br_f h9 h)
  · exact br_f h0 (br_f (h2.resolve_left h0) (br_f h9 h))
theorem rd_bp {post : Int32 → Prop} {u : SX} {p : Nat} (hp : p < 36) (ht : p / 6 < p % 6 → post 0) (hf : ¬ p / 6 < p % 6 → post 1) : wpX_badPair post u (nI p) := by
  obtain ⟨fs, fd, fb, oc, pc, dl, al, ch, sp, ah, bv, fi⟩ := u
  exact br_f (nI_pos (by omega)) (br_t (nI_le (b := 35) (by omega) (by decide)) (And.intro (by decide) (And.intro (by decide) (pk_lt (p / 6) (p % 6) ht (fun h => hf (by omega)) (hx := pk_div (d := 6) (by omega) (by decide) (by decide)) (hy := pk_rem (d := 6) (by omega) (by decide) (by decide))))))
theorem rd_bp_f {post : Int32 → Prop} {u : SX} {v : Int32} (hv : v < 0 ∨ nI 36 ≤ v) (h : post 1) : wpX_badPair post u v := by
  obtain ⟨fs, fd, fb, oc, pc, dl, al, ch, sp, ah, bv, fi⟩ := u
  by_cases h0 : v < 0
  · exact br_t h0 h
  · exact br_f h0 (br_f (Int32.not_le.mpr (rd_gt (n := 35) (by decide) h0 hv)) h)
theorem rd_ip {post : Int32 → Prop} {a_owns a_pairs : Nat → Int32} {p : Nat} (hp : p < 36) (ht : p / 6 < p % 6 → post 1) (hf : ¬ p / 6 < p % 6 → post 0) : wpY_isPair post (a_owns, a_pairs) (nI p) :=
  br_f (nI_pos (by omega)) (br_f (nI_nlt (a := 35) (by omega) (by decide)) (And.intro (by decide) (And.intro (by decide) (pk_le (p % 6) (p / 6) (fun h => hf (by omega)) ht (hx := pk_rem (d := 6) (by omega) (by decide) (by decide)) (hy := pk_div (d := 6) (by omega) (by decide) (by decide))))))
theorem rd_ip_f {post : Int32 → Prop} {a_owns a_pairs : Nat → Int32} {v : Int32} (hv : v < 0 ∨ nI 36 ≤ v) (h : post 0) : wpY_isPair post (a_owns, a_pairs) v := by
  by_cases h0 : v < 0
  · exact br_t h0 h
  · exact br_f h0 (br_t (rd_gt (n := 35) (by decide) h0 hv) h)
theorem rd_p9 (p y : Nat) : (nI p * 9) + nI y = nI (p * 9 + y) := by
  show nI p * nI 9 + nI y = _
  rw [pk_mul, nI_add]
theorem rd_9p (p y : Nat) : (9 * nI p) + nI y = nI (p * 9 + y) := by
  show nI 9 * nI p + nI y = _
  rw [pk_mul, nI_add, Nat.mul_comm]
theorem rd_l9 {p y : Nat} (hp : p < 36) (hy : y < 9) : p * 9 + y < 324 := by omega
/-- one value of relate -/
theorem rd_x44 {post : Int32 → SX → Prop} {J : Int32 → (Nat → Int32) → (Nat → Int32) → (Nat → Int32) → (Nat → Int32) → (Nat → Int32) → (Nat → Int32) → (Nat → Int32) → (Nat → Int32) → (Nat → Int32) → Prop} {p y : Nat} {same C z fs fd fb : Int32} {oc a dl al ch sp ah bv fi : Nat → Int32} (hp : p < 36) (hy : y < 9)
    (Hw : z = (if same = 0 then 0 else 1) → J (nI (y + 1)) oc (upd a (p * 9 + y) C) dl al ch sp ah bv fi) (Hn : ¬ z = (if same = 0 then 0 else 1) → J (nI (y + 1)) oc a dl al ch sp ah bv fi) : wX_relate_44 post J (nI p) same C (nI y) z fs fd fb oc a dl al ch sp ah bv fi := by
  have h57 : ∀ q : Int32, q = (if same = 0 then 0 else 1) → wX_relate_57 post J (nI p) same C (nI y) q z fs fd fb oc a dl al ch sp ah bv fi := by
    intro q hq
    refine br_c (fun e => And.intro (pk_in _ _ (rd_l9 hp hy) (rd_p9 p y)) (fun a1 h1 x hx => ?_)) (fun e x hx => ?_)
    · rw [hx, nI_1, h1, pk_cl _ (rd_p9 p y) (by omega)]
      exact Hw (e.trans hq)
    · rw [hx, nI_1]
      exact Hn (fun z => e (z.trans hq.symm))
  exact br_c (fun e => h57 0 (if_pos e).symm) (fun e => h57 1 (if_neg e).symm)
theorem rd_y44 {post : Int32 → SY → Prop} {J : Int32 → (Nat → Int32) → (Nat → Int32) → Prop} {p y : Nat} {same C z : Int32} {oc a : Nat → Int32} (hp : p < 36) (hy : y < 9)
    (Hw : z = (if same = 0 then 0 else 1) → J (nI (y + 1)) oc (upd a (p * 9 + y) C)) (Hn : ¬ z = (if same = 0 then 0 else 1) → J (nI (y + 1)) oc a) : wY_relate_44 post J (nI p) same C (nI y) z oc a := by
  have h57 : ∀ q : Int32, q = (if same = 0 then 0 else 1) → wY_relate_57 post J (nI p) same C (nI y) q z oc a := by
    intro q hq
    refine br_c (fun e => And.intro (pk_in _ _ (rd_l9 hp hy) (rd_9p p y)) (fun a1 h1 x hx => ?_)) (fun e x hx => ?_)
    · rw [hx, nI_1, h1, pk_cl _ (rd_9p p y) (by omega)]
      exact Hw (e.trans hq)
    · rw [hx, nI_1]
      exact Hn (fun z => e (z.trans hq.symm))
  exact br_c (fun e => h57 0 (if_pos e).symm) (fun e => h57 1 (if_neg e).symm)
theorem rd_relate {p c : Nat} {same : Int32} (hp : p < 36) (hc : rd_ok c) : ∀ (n y : Nat) (a : Nat → Int32), y + n = 9 → rd_Ok a → ∃ a' : Nat → Int32, rd_Ok a' ∧
    (∀ (post : Int32 → SX → Prop) (fuel : Nat) (fs fd fb : Int32) (oc dl al ch sp ah bv fi : Nat → Int32), n < fuel → post 0 (0, fd, fb, oc, a', dl, al, ch, sp, ah, bv, fi) → wX_relate_21 post (nI p) same (nI c) fs fd fb fuel (nI y) oc a dl al ch sp ah bv fi) ∧
    (∀ (post : Int32 → SY → Prop) (fuel : Nat) (oc : Nat → Int32), n < fuel → post 0 (oc, a') → wY_relate_21 post (nI p) same (nI c) fuel (nI y) oc a) := by
  intro n
  induction n with
  | zero =>
    intro y a hy ha
    refine ⟨a, ha, fun post fuel fs fd fb oc dl al ch sp ah bv fi hf h => ?_, fun post fuel oc hf h => ?_⟩
    · obtain ⟨fuel, rfl⟩ : ∃ n', fuel = n' + 1 := ⟨fuel - 1, by omega⟩
      exact br_t (nI_le (a := 9) (by omega) (by omega)) h
    · obtain ⟨fuel, rfl⟩ : ∃ n', fuel = n' + 1 := ⟨fuel - 1, by omega⟩
      exact br_t (nI_le (a := 9) (by omega) (by omega)) h
  | succ n ih =>
    intro y a hy ha
    have hy9 : y < 9 := by omega
    have eD : nI y / 3 = nI (y / 3) := pk_div (d := 3) (by omega) (by decide) (by decide)
    have eR : nI y - nI y / 3 * 3 = nI (y % 3) := pk_rem (d := 3) (by omega) (by decide) (by decide)
    by_cases hz : (if y / 3 = y % 3 then (1 : Int32) else 0) = (if same = 0 then 0 else 1)
    · obtain ⟨a', h1, h2, h3⟩ := ih (y + 1) (upd a (p * 9 + y) (nI c)) (by omega) (rd_Ok_upd ha hc)
      refine ⟨a', h1, fun post fuel fs fd fb oc dl al ch sp ah bv fi hf h => ?_, fun post fuel oc hf h => ?_⟩
      · obtain ⟨fuel, rfl⟩ : ∃ n', fuel = n' + 1 := ⟨fuel - 1, by omega⟩
        have k44 : wX_relate_44 post (wX_relate_21 post (nI p) same (nI c) fs fd fb fuel) (nI p) same (nI c) (nI y) (if y / 3 = y % 3 then (1 : Int32) else 0) fs fd fb oc a dl al ch sp ah bv fi := rd_x44 hp hy9 (fun _ => h2 post fuel fs fd fb oc dl al ch sp ah bv fi (by omega) h) (fun e => absurd hz e)
        refine br_f (nI_ge (b := 9) hy9 (by decide)) (And.intro (by decide) (And.intro (by decide) (pk_eq (y / 3) (y % 3) (fun e => ?_) (fun e => ?_) (hx := eD) (hy := eR))))
        · rw [if_pos e] at k44; exact k44
        · rw [if_neg e] at k44; exact k44
      · obtain ⟨fuel, rfl⟩ : ∃ n', fuel = n' + 1 := ⟨fuel - 1, by omega⟩
        have k44 : wY_relate_44 post (wY_relate_21 post (nI p) same (nI c) fuel) (nI p) same (nI c) (nI y) (if y / 3 = y % 3 then (1 : Int32) else 0) oc a := rd_y44 hp hy9 (fun _ => h3 post fuel oc (by omega) h) (fun e => absurd hz e)
        refine br_f (nI_ge (b := 9) hy9 (by decide)) (And.intro (by decide) (And.intro (by decide) (pk_eq (y / 3) (y % 3) (fun e => ?_) (fun e => ?_) (hx := eD) (hy := eR))))
        · rw [if_pos e] at k44; exact k44
        · rw [if_neg e] at k44; exact k44
    · obtain ⟨a', h1, h2, h3⟩ := ih (y + 1) a (by omega) ha
      refine ⟨a', h1, fun post fuel fs fd fb oc dl al ch sp ah bv fi hf h => ?_, fun post fuel oc hf h => ?_⟩
      · obtain ⟨fuel, rfl⟩ : ∃ n', fuel = n' + 1 := ⟨fuel - 1, by omega⟩
        have k44 : wX_relate_44 post (wX_relate_21 post (nI p) same (nI c) fs fd fb fuel) (nI p) same (nI c) (nI y) (if y / 3 = y % 3 then (1 : Int32) else 0) fs fd fb oc a dl al ch sp ah bv fi := rd_x44 hp hy9 (fun e => absurd e hz) (fun _ => h2 post fuel fs fd fb oc dl al ch sp ah bv fi (by omega) h)
        refine br_f (nI_ge (b := 9) hy9 (by decide)) (And.intro (by decide) (And.intro (by decide) (pk_eq (y / 3) (y % 3) (fun e => ?_) (fun e => ?_) (hx := eD) (hy := eR))))
        · rw [if_pos e] at k44; exact k44
        · rw [if_neg e] at k44; exact k44
      · obtain ⟨fuel, rfl⟩ : ∃ n', fuel = n' + 1 := ⟨fuel - 1, by omega⟩
        have k44 : wY_relate_44 post (wY_relate_21 post (nI p) same (nI c) fuel) (nI p) same (nI c) (nI y) (if y / 3 = y % 3 then (1 : Int32) else 0) oc a := rd_y44 hp hy9 (fun e => absurd e hz) (fun _ => h3 post fuel oc (by omega) h)
        refine br_f (nI_ge (b := 9) hy9 (by decide)) (And.intro (by decide) (And.intro (by decide) (pk_eq (y / 3) (y % 3) (fun e => ?_) (fun e => ?_) (hx := eD) (hy := eR))))
        · rw [if_pos e] at k44; exact k44
        · rw [if_neg e] at k44; exact k44
theorem rd_cl23 : ∀ (n y : Nat) (a : Nat → Int32), y + n = 324 → rd_Ok a → ∃ a' : Nat → Int32, rd_Ok a' ∧
    (∀ (post : SX → Prop) (fuel : Nat) (fs fd fb : Int32) (oc dl al ch sp ah bv fi : Nat → Int32), n < fuel → post (0, fd, fb, oc, a', dl, al, ch, sp, ah, bv, fi) → wX_clear_23 post fs fd fb fuel (nI y) oc a dl al ch sp ah bv fi) ∧
    (∀ (post : SY → Prop) (fuel : Nat) (oc : Nat → Int32), n < fuel → post (oc, a') → wY_clear_23 post fuel (nI y) oc a) := by
  intro n
  induction n with
  | zero =>
    intro y a hy ha
    refine ⟨a, ha, fun post fuel fs fd fb oc dl al ch sp ah bv fi hf h => ?_, fun post fuel oc hf h => ?_⟩
    · obtain ⟨fuel, rfl⟩ : ∃ n', fuel = n' + 1 := ⟨fuel - 1, by omega⟩
      exact br_t (nI_le (a := 324) (by omega) (by omega)) h
    · obtain ⟨fuel, rfl⟩ : ∃ n', fuel = n' + 1 := ⟨fuel - 1, by omega⟩
      exact br_t (nI_le (a := 324) (by omega) (by omega)) h
  | succ n ih =>
    intro y a hy ha
    obtain ⟨a', h1, h2, h3⟩ := ih (y + 1) (upd a y (nI 0)) (by omega) (rd_Ok_upd ha (Or.inl (by decide)))
    refine ⟨a', h1, fun post fuel fs fd fb oc dl al ch sp ah bv fi hf h => ?_, fun post fuel oc hf h => ?_⟩
    · obtain ⟨fuel, rfl⟩ : ∃ n', fuel = n' + 1 := ⟨fuel - 1, by omega⟩
      refine br_f (nI_ge (b := 324) (by omega) (by decide)) (And.intro (pk_in y 324 (by omega)) (fun a1 e1 x hx => ?_))
      rw [hx, nI_1, e1, nI_clamp (by omega)]
      exact h2 post fuel fs fd fb oc dl al ch sp ah bv fi (by omega) h
    · obtain ⟨fuel, rfl⟩ : ∃ n', fuel = n' + 1 := ⟨fuel - 1, by omega⟩
      refine br_f (nI_ge (b := 324) (by omega) (by decide)) (And.intro (pk_in y 324 (by omega)) (fun a1 e1 x hx => ?_))
      rw [hx, nI_1, e1, nI_clamp (by omega)]
      exact h3 post fuel oc (by omega) h
theorem rd_cl2 : ∀ (n y : Nat) (a : Nat → Int32), y + n = 18 → rd_Ok a → ∃ a' : Nat → Int32, rd_Ok a' ∧
    (∀ (post : SX → Prop) (fuel : Nat) (fs fd fb : Int32) (pc dl al ch sp ah bv fi : Nat → Int32), n < fuel → (∃ n23 : Nat, wX_clear_23 post fs fd fb n23 0 a' pc dl al ch sp ah bv fi) → wX_clear_2 post fs fd fb fuel (nI y) a pc dl al ch sp ah bv fi) ∧
    (∀ (post : SY → Prop) (fuel : Nat) (pc : Nat → Int32), n < fuel → (∃ n23 : Nat, wY_clear_23 post n23 0 a' pc) → wY_clear_2 post fuel (nI y) a pc) := by
  intro n
  induction n with
  | zero =>
    intro y a hy ha
    refine ⟨a, ha, fun post fuel fs fd fb oc dl al ch sp ah bv fi hf h => ?_, fun post fuel oc hf h => ?_⟩
    · obtain ⟨fuel, rfl⟩ : ∃ n', fuel = n' + 1 := ⟨fuel - 1, by omega⟩
      exact br_t (nI_le (a := 18) (by omega) (by omega)) h
    · obtain ⟨fuel, rfl⟩ : ∃ n', fuel = n' + 1 := ⟨fuel - 1, by omega⟩
      exact br_t (nI_le (a := 18) (by omega) (by omega)) h
  | succ n ih =>
    intro y a hy ha
    obtain ⟨a', h1, h2, h3⟩ := ih (y + 1) (upd a y (nI 0)) (by omega) (rd_Ok_upd ha (Or.inl (by decide)))
    refine ⟨a', h1, fun post fuel fs fd fb oc dl al ch sp ah bv fi hf h => ?_, fun post fuel oc hf h => ?_⟩
    · obtain ⟨fuel, rfl⟩ : ∃ n', fuel = n' + 1 := ⟨fuel - 1, by omega⟩
      refine br_f (nI_ge (b := 18) (by omega) (by decide)) (And.intro (pk_in y 18 (by omega)) (fun a1 e1 x hx => ?_))
      rw [hx, nI_1, e1, nI_clamp (by omega)]
      exact h2 post fuel fs fd fb oc dl al ch sp ah bv fi (by omega) h
    · obtain ⟨fuel, rfl⟩ : ∃ n', fuel = n' + 1 := ⟨fuel - 1, by omega⟩
      refine br_f (nI_ge (b := 18) (by omega) (by decide)) (And.intro (pk_in y 18 (by omega)) (fun a1 e1 x hx => ?_))
      rw [hx, nI_1, e1, nI_clamp (by omega)]
      exact h3 post fuel oc (by omega) h
end
section
/-! what is owed -/
/-- the same costs on both sides, each a cost; while solved holds, dolls and first are those of the costs -/
def i_Rel (k : Nat) (u : SX) (v : SY) : Prop := match u with
  | (fs, _, _, oc, pc, dl, _, _, _, _, _, fi) => v = (oc, pc) ∧ rd_Ok oc ∧ rd_Ok pc ∧ (fs = 0 ∨ rd_Sol (rd_N oc) (rd_N pc) dl fi)
theorem rd_mk {k : Nat} {fs fd fb : Int32} {oc pc dl al ch sp ah bv fi : Nat → Int32} (h1 : rd_Ok oc) (h2 : rd_Ok pc) (h3 : fs = 0 ∨ rd_Sol (rd_N oc) (rd_N pc) dl fi) : i_Rel k (fs, fd, fb, oc, pc, dl, al, ch, sp, ah, bv, fi) (oc, pc) := And.intro rfl (And.intro h1 (And.intro h2 h3))
theorem rd_el {k : Nat} {u : SX} {v : SY} {Q : SX → SY → Prop} (I : i_Rel k u v) (h : ∀ (fs fd fb : Int32) (oc pc dl al ch sp ah bv fi : Nat → Int32), rd_Ok oc → rd_Ok pc → (fs = 0 ∨ rd_Sol (rd_N oc) (rd_N pc) dl fi) → Q (fs, fd, fb, oc, pc, dl, al, ch, sp, ah, bv, fi) (oc, pc)) : Q u v := by
  obtain ⟨fs, fd, fb, oc, pc, dl, al, ch, sp, ah, bv, fi⟩ := u
  obtain ⟨rfl, h1, h2, h3⟩ := I
  exact h fs fd fb oc pc dl al ch sp ah bv fi h1 h2 h3
theorem i_up {k : Nat} {u : SX} {v : SY} (h : i_Rel k u v) : i_Rel (k + 4) u v := rd_el (Q := fun u v => i_Rel (k + 4) u v) h (fun _ _ _ _ _ _ _ _ _ _ _ _ h1 h2 h3 => rd_mk h1 h2 h3)
theorem i_vc0 : wpX_init (fun u => wpY_init (fun v => i_Rel 0 u v)) := And.intro rfl (And.intro (fun _ => ⟨0, Or.inl (Nat.zero_le _), rfl⟩) (And.intro (fun _ => ⟨0, Or.inl (Nat.zero_le _), rfl⟩) (Or.inl rfl)))
theorem i_vc_own {k : Nat} {u : SX} {v : SY} (I : i_Rel k u v) (hk : k + 4 ≤ 2048) (v1 : Int32) (v2 : Int32) (v3 : Int32) : wpX_own (fun r u' => wpY_own (fun r' v' => r' = r ∧ i_Rel (k + 4) u' v') v v1 v2 v3) u v1 v2 v3 := by
  refine rd_el (Q := fun u v => wpX_own (fun r u' => wpY_own (fun r' v' => r' = r ∧ i_Rel (k + 4) u' v') v v1 v2 v3) u v1 v2 v3) I ?_
  intro fs fd fb oc pc dl al ch sp ah bv fi h1 h2 h3
  unfold wpX_own wpY_own
  dsimp only
  rcases rd_ix v1 6 (by decide) with hv | ⟨i, hi, rfl⟩
  · exact rd_bv_f hv (br_f (by decide) (rd_isVar_f hv (br_t rfl ⟨rfl, rd_mk h1 h2 h3⟩)))
  · refine rd_bv_t hi (br_t rfl ?_)
    rcases rd_ix v2 3 (by decide) with hv | ⟨x, hx, rfl⟩
    · exact rd_rng_f 2 (by decide) hv (rd_isVar_t hi (br_f (by decide) (rd_isVal_f hv (br_t rfl ⟨rfl, rd_mk h1 h2 h3⟩))))
    · refine rd_rng_t 2 (by decide) hx ?_
      rcases rd_cost_cases v3 with hv | ⟨c, hc, rfl⟩
      · exact rd_bc_f hv (br_f (by decide) (rd_isVar_t hi (br_f (by decide) (rd_isVal_t hx (br_f (by decide) (rd_ic_f hv (br_t rfl ⟨rfl, rd_mk h1 h2 h3⟩)))))))
      · have hl := rd_lt3 hi hx
        have hX := pk_in _ _ hl (rd_i3' i x)
        have hY := pk_in _ _ hl (rd_i3 i x)
        refine rd_bc_t hc (br_t rfl (And.intro hX (fun y4 h4 => And.intro hX (fun oc1 ho1 => ?_))))
        refine rd_isVar_t hi (br_f (by decide) (rd_isVal_t hx (br_f (by decide) (rd_ic_t hc (br_f (by decide) (And.intro hY (fun z4 g4 => And.intro hY (fun oc2 ho2 => ?_))))))))
        rw [pk_cl _ (rd_i3' i x) (by omega)] at h4 ho1
        rw [pk_cl _ (rd_i3 i x) (by omega)] at g4 ho2
        subst ho1
        subst ho2
        exact ⟨g4.trans h4.symm, rd_mk (rd_Ok_upd h1 hc) h2 (Or.inl rfl)⟩
theorem i_vc_pair {k : Nat} {u : SX} {v : SY} (I : i_Rel k u v) (hk : k + 4 ≤ 2048) (v1 : Int32) (v2 : Int32) (v3 : Int32) : wpX_pair (fun r u' => wpY_pair (fun r' v' => r' = r ∧ i_Rel (k + 4) u' v') v v1 v2 v3) u v1 v2 v3 := by
  refine rd_el (Q := fun u v => wpX_pair (fun r u' => wpY_pair (fun r' v' => r' = r ∧ i_Rel (k + 4) u' v') v v1 v2 v3) u v1 v2 v3) I ?_
  intro fs fd fb oc pc dl al ch sp ah bv fi h1 h2 h3
  unfold wpX_pair wpY_pair
  dsimp only
  rcases rd_ix v1 36 (by decide) with hv | ⟨p, hp, rfl⟩
  · exact rd_bp_f hv (br_f (by decide) (rd_ip_f hv (br_t rfl ⟨rfl, rd_mk h1 h2 h3⟩)))
  · by_cases hg : p / 6 < p % 6
    · refine rd_bp hp (fun _ => br_t rfl ?_) (fun z => absurd hg z)
      rcases rd_ix v2 9 (by decide) with hv | ⟨x, hx, rfl⟩
      · exact rd_rng_f 8 (by decide) hv (rd_ip hp (fun _ => br_f (by decide) (rd_rng_f 8 (by decide) hv ⟨rfl, rd_mk h1 h2 h3⟩)) (fun z => absurd hg z))
      · refine rd_rng_t 8 (by decide) hx ?_
        rcases rd_cost_cases v3 with hv | ⟨c, hc, rfl⟩
        · exact rd_bc_f hv (br_f (by decide) (rd_ip hp (fun _ => br_f (by decide) (rd_rng_t 8 (by decide) hx (rd_ic_f hv (br_t rfl ⟨rfl, rd_mk h1 h2 h3⟩)))) (fun z => absurd hg z)))
        · have hl := rd_l9 hp hx
          have hX := pk_in _ _ hl (rd_p9 p x)
          have hY := pk_in _ _ hl (rd_9p p x)
          refine rd_bc_t hc (br_t rfl (And.intro hX (fun y4 h4 => And.intro hX (fun oc1 ho1 => ?_))))
          refine rd_ip hp (fun _ => br_f (by decide) (rd_rng_t 8 (by decide) hx (rd_ic_t hc (br_f (by decide) (And.intro hY (fun z4 g4 => And.intro hY (fun oc2 ho2 => ?_))))))) (fun z => absurd hg z)
          rw [pk_cl _ (rd_p9 p x) (by omega)] at h4 ho1
          rw [pk_cl _ (rd_9p p x) (by omega)] at g4 ho2
          subst ho1
          subst ho2
          exact ⟨g4.trans h4.symm, rd_mk h1 (rd_Ok_upd h2 hc) (Or.inl rfl)⟩
    · exact rd_bp hp (fun z => absurd z hg) (fun _ => br_f (by decide) (rd_ip hp (fun z => absurd z hg) (fun _ => br_t rfl ⟨rfl, rd_mk h1 h2 h3⟩)))
theorem i_vc_relate {k : Nat} {u : SX} {v : SY} (I : i_Rel k u v) (hk : k + 4 ≤ 2048) (v1 : Int32) (v2 : Int32) (v3 : Int32) : wpX_relate (fun r u' => wpY_relate (fun r' v' => r' = r ∧ i_Rel (k + 4) u' v') v v1 v2 v3) u v1 v2 v3 := by
  refine rd_el (Q := fun u v => wpX_relate (fun r u' => wpY_relate (fun r' v' => r' = r ∧ i_Rel (k + 4) u' v') v v1 v2 v3) u v1 v2 v3) I ?_
  intro fs fd fb oc pc dl al ch sp ah bv fi h1 h2 h3
  unfold wpX_relate wpY_relate
  dsimp only
  rcases rd_ix v1 36 (by decide) with hv | ⟨p, hp, rfl⟩
  · exact rd_bp_f hv (br_f (by decide) (rd_ip_f hv (br_t rfl ⟨rfl, rd_mk h1 h2 h3⟩)))
  · by_cases hg : p / 6 < p % 6
    · refine rd_bp hp (fun _ => br_t rfl ?_) (fun z => absurd hg z)
      rcases rd_cost_cases v3 with hv | ⟨c, hc, rfl⟩
      · exact rd_bc_f hv (br_f (by decide) (rd_ip hp (fun _ => br_f (by decide) (rd_ic_f hv (br_t rfl ⟨rfl, rd_mk h1 h2 h3⟩))) (fun z => absurd hg z)))
      · obtain ⟨a', ha, hX, hY⟩ := rd_relate (same := v2) hp hc 9 0 pc (by omega) h2
        refine rd_bc_t hc (br_t rfl (Exists.intro 10 (hX _ 10 fs fd fb oc dl al ch sp ah bv fi (by omega) ?_)))
        exact rd_ip hp (fun _ => br_f (by decide) (rd_ic_t hc (br_f (by decide) (Exists.intro 10 (hY _ 10 oc (by omega) ⟨rfl, rd_mk h1 ha (Or.inl rfl)⟩))))) (fun z => absurd hg z)
    · exact rd_bp hp (fun z => absurd z hg) (fun _ => br_f (by decide) (rd_ip hp (fun z => absurd z hg) (fun _ => br_t rfl ⟨rfl, rd_mk h1 h2 h3⟩)))
theorem i_vc_clear {k : Nat} {u : SX} {v : SY} (I : i_Rel k u v) (hk : k + 4 ≤ 2048) : wpX_clear (fun u' => wpY_clear (fun v' => i_Rel (k + 4) u' v') v) u := by
  refine rd_el (Q := fun u v => wpX_clear (fun u' => wpY_clear (fun v' => i_Rel (k + 4) u' v') v) u) I ?_
  intro fs fd fb oc pc dl al ch sp ah bv fi h1 h2 h3
  obtain ⟨a', ha, hX, hY⟩ := rd_cl2 18 0 oc (by omega) h1
  obtain ⟨b', hb, gX, gY⟩ := rd_cl23 324 0 pc (by omega) h2
  unfold wpX_clear wpY_clear
  dsimp only
  refine Exists.intro 19 (hX _ 19 fs fd fb pc dl al ch sp ah bv fi (by omega) (Exists.intro 325 (gX _ 325 fs fd fb a' dl al ch sp ah bv fi (by omega) ?_)))
  exact Exists.intro 19 (hY _ 19 pc (by omega) (Exists.intro 325 (gY _ 325 a' (by omega) (rd_mk ha hb (Or.inl rfl)))))
theorem i_vc_doll {k : Nat} {u : SX} {v : SY} (I : i_Rel k u v) (hk : k + 4 ≤ 2048) (v1 : Int32) : wpX_doll (fun r u' => wpY_doll (fun r' => r' = r ∧ i_Rel (k + 4) u' v) v v1) u v1 := by
  refine rd_el (Q := fun u v => wpX_doll (fun r u' => wpY_doll (fun r' => r' = r ∧ i_Rel (k + 4) u' v) v v1) u v1) I ?_
  intro fs fd fb oc pc dl al ch sp ah bv fi h1 h2 h3
  rcases rd_ix v1 6 (by decide) with hv | ⟨i, hi, rfl⟩
  · unfold wpX_doll wpY_doll
    dsimp only
    exact rd_bv_f hv (br_f (by decide) (rd_isVar_f hv (br_t rfl ⟨rfl, rd_mk h1 h2 h3⟩)))
  · refine rd_Xdoll (fun j => (rd_Ok_N h1 j).2) (fun j => (rd_Ok_N h1 j).1) (fun j => (rd_Ok_N h2 j).2) (fun j => (rd_Ok_N h2 j).1) hi h3 (fun fs fd fb dl al ch sp ah bv fi hS => ?_)
    exact rd_Ydoll (fun j => (rd_Ok_N h1 j).2) (fun j => (rd_Ok_N h1 j).1) (fun j => (rd_Ok_N h2 j).2) (fun j => (rd_Ok_N h2 j).1) hi ⟨rfl, rd_mk h1 h2 (Or.inr hS)⟩
theorem i_vc_cheapest {k : Nat} {u : SX} {v : SY} (I : i_Rel k u v) (hk : k + 4 ≤ 2048) : wpX_cheapest (fun r u' => wpY_cheapest (fun r' => r' = r ∧ i_Rel (k + 4) u' v) v) u := by
  refine rd_el (Q := fun u v => wpX_cheapest (fun r u' => wpY_cheapest (fun r' => r' = r ∧ i_Rel (k + 4) u' v) v) u) I ?_
  intro fs fd fb oc pc dl al ch sp ah bv fi h1 h2 h3
  unfold wpX_cheapest wpY_cheapest
  dsimp only
  refine rd_Xdoll (i := 0) (fun j => (rd_Ok_N h1 j).2) (fun j => (rd_Ok_N h1 j).1) (fun j => (rd_Ok_N h2 j).2) (fun j => (rd_Ok_N h2 j).1) (by decide) h3 (fun fs fd fb dl al ch sp ah bv fi hS => ?_)
  exact rd_Ydoll (i := 0) (fun j => (rd_Ok_N h1 j).2) (fun j => (rd_Ok_N h1 j).1) (fun j => (rd_Ok_N h2 j).2) (fun j => (rd_Ok_N h2 j).1) (by decide) ⟨rfl, rd_mk h1 h2 (Or.inr hS)⟩
theorem i_vc_value {k : Nat} {u : SX} {v : SY} (I : i_Rel k u v) (hk : k + 4 ≤ 2048) (v1 : Int32) : wpX_value (fun r u' => wpY_value (fun r' => r' = r ∧ i_Rel (k + 4) u' v) v v1) u v1 := by
  refine rd_el (Q := fun u v => wpX_value (fun r u' => wpY_value (fun r' => r' = r ∧ i_Rel (k + 4) u' v) v v1) u v1) I ?_
  intro fs fd fb oc pc dl al ch sp ah bv fi h1 h2 h3
  rcases rd_ix v1 6 (by decide) with hv | ⟨i, hi, rfl⟩
  · unfold wpX_value wpY_value
    dsimp only
    exact rd_bv_f hv (br_f (by decide) (rd_isVar_f hv (br_t rfl ⟨rfl, rd_mk h1 h2 h3⟩)))
  · refine rd_Xvalue (fun j => (rd_Ok_N h1 j).2) (fun j => (rd_Ok_N h1 j).1) (fun j => (rd_Ok_N h2 j).2) (fun j => (rd_Ok_N h2 j).1) hi h3 (fun hD fs fd fb dl al ch sp ah bv fi hS => ?_) (fun hD fs fd fb dl al ch sp ah bv fi hS => ?_)
    · exact rd_Yvalue (fun j => (rd_Ok_N h1 j).2) (fun j => (rd_Ok_N h1 j).1) (fun j => (rd_Ok_N h2 j).2) (fun j => (rd_Ok_N h2 j).1) hi (fun _ => ⟨rfl, rd_mk h1 h2 (Or.inr hS)⟩) (fun z => absurd hD z)
    · exact rd_Yvalue (fun j => (rd_Ok_N h1 j).2) (fun j => (rd_Ok_N h1 j).1) (fun j => (rd_Ok_N h2 j).2) (fun j => (rd_Ok_N h2 j).1) hi (fun z => absurd z hD) (fun _ => ⟨rfl, rd_mk h1 h2 (Or.inr hS)⟩)
theorem rd_le2_f {A B : Prop} {v : Int32} (hv : v < 0 ∨ nI 3 ≤ v) (h : A) : (v < 0 → A) ∧ (¬ v < 0 → ((v ≤ 2 → B) ∧ (¬ v ≤ 2 → A))) := by
  by_cases h0 : v < 0
  · exact br_t h0 h
  · exact br_f h0 (br_f (Int32.not_le.mpr (rd_gt (n := 2) (by decide) h0 hv)) h)
theorem i_vc_with {k : Nat} {u : SX} {v : SY} (I : i_Rel k u v) (hk : k + 4 ≤ 2048) (v1 : Int32) (v2 : Int32) : wpX_with (fun r u' => wpY_with (fun r' => r' = r ∧ i_Rel (k + 4) u' v) v v1 v2) u v1 v2 := by
  refine rd_el (Q := fun u v => wpX_with (fun r u' => wpY_with (fun r' => r' = r ∧ i_Rel (k + 4) u' v) v v1 v2) u v1 v2) I ?_
  intro fs fd fb oc pc dl al ch sp ah bv fi h1 h2 h3
  rcases rd_ix v1 6 (by decide) with hv | ⟨i, hi, rfl⟩
  · unfold wpX_with wpY_with
    dsimp only
    exact rd_bv_f hv (br_f (by decide) (rd_isVar_f hv (br_t rfl ⟨rfl, rd_mk h1 h2 h3⟩)))
  · rcases rd_ix v2 3 (by decide) with hv | ⟨x, hx, rfl⟩
    · unfold wpX_with wpY_with
      dsimp only
      exact rd_bv_t hi (br_t rfl (rd_le2_f hv (rd_isVar_t hi (br_f (by decide) (rd_isVal_f hv (br_t rfl ⟨rfl, rd_mk h1 h2 h3⟩))))))
    · refine rd_Xwith (fun j => (rd_Ok_N h1 j).2) (fun j => (rd_Ok_N h1 j).1) (fun j => (rd_Ok_N h2 j).2) (fun j => (rd_Ok_N h2 j).1) hi hx h3 (fun fs fd fb dl al ch sp ah bv fi hS => ?_)
      exact rd_Ywith (fun j => (rd_Ok_N h1 j).2) (fun j => (rd_Ok_N h1 j).1) (fun j => (rd_Ok_N h2 j).2) (fun j => (rd_Ok_N h2 j).1) hi hx ⟨rfl, rd_mk h1 h2 (Or.inr hS)⟩
theorem i_vc_settled {k : Nat} {u : SX} {v : SY} (I : i_Rel k u v) (hk : k + 4 ≤ 2048) (v1 : Int32) : wpX_settled (fun r u' => wpY_settled (fun r' => r' = r ∧ i_Rel (k + 4) u' v) v v1) u v1 := by
  refine rd_el (Q := fun u v => wpX_settled (fun r u' => wpY_settled (fun r' => r' = r ∧ i_Rel (k + 4) u' v) v v1) u v1) I ?_
  intro fs fd fb oc pc dl al ch sp ah bv fi h1 h2 h3
  rcases rd_ix v1 6 (by decide) with hv | ⟨i, hi, rfl⟩
  · unfold wpX_settled
    dsimp only
    refine rd_bv_f hv (br_f (by decide) ?_)
    exact rd_Ysettled_f (fun j => (rd_Ok_N h1 j).2) (fun j => (rd_Ok_N h1 j).1) (fun j => (rd_Ok_N h2 j).2) (fun j => (rd_Ok_N h2 j).1) hv ⟨rfl, rd_mk h1 h2 h3⟩
  · refine rd_Xsettled (fun j => (rd_Ok_N h1 j).2) (fun j => (rd_Ok_N h1 j).1) (fun j => (rd_Ok_N h2 j).2) (fun j => (rd_Ok_N h2 j).1) hi h3 (fun fs fd fb dl al ch sp ah bv fi hS => ?_)
    exact rd_Ysettled (fun j => (rd_Ok_N h1 j).2) (fun j => (rd_Ok_N h1 j).1) (fun j => (rd_Ok_N h2 j).2) (fun j => (rd_Ok_N h2 j).1) hi ⟨rfl, rd_mk h1 h2 (Or.inr hS)⟩
theorem i_vc_second {k : Nat} {u : SX} {v : SY} (I : i_Rel k u v) (hk : k + 4 ≤ 2048) : wpX_second (fun r u' => wpY_second (fun r' => r' = r ∧ i_Rel (k + 4) u' v) v) u := by
  refine rd_el (Q := fun u v => wpX_second (fun r u' => wpY_second (fun r' => r' = r ∧ i_Rel (k + 4) u' v) v) u) I ?_
  intro fs fd fb oc pc dl al ch sp ah bv fi h1 h2 h3
  refine rd_Xsecond (fun j => (rd_Ok_N h1 j).2) (fun j => (rd_Ok_N h1 j).1) (fun j => (rd_Ok_N h2 j).2) (fun j => (rd_Ok_N h2 j).1) h3 (fun fs fd fb dl al ch sp ah bv fi hS => ?_)
  exact rd_Ysecond (fun j => (rd_Ok_N h1 j).2) (fun j => (rd_Ok_N h1 j).1) (fun j => (rd_Ok_N h2 j).2) (fun j => (rd_Ok_N h2 j).1) ⟨rfl, rd_mk h1 h2 (Or.inr hS)⟩
theorem i_vc_zigzag {k : Nat} {u : SX} {v : SY} (I : i_Rel k u v) (hk : k + 4 ≤ 2048) : wpX_zigzag (fun r u' => wpY_zigzag (fun r' => r' = r ∧ i_Rel (k + 4) u' v) v) u := by
  refine rd_el (Q := fun u v => wpX_zigzag (fun r u' => wpY_zigzag (fun r' => r' = r ∧ i_Rel (k + 4) u' v) v) u) I ?_
  intro fs fd fb oc pc dl al ch sp ah bv fi h1 h2 h3
  refine rd_Xzigzag (fun j => (rd_Ok_N h1 j).2) (fun j => (rd_Ok_N h1 j).1) (fun j => (rd_Ok_N h2 j).2) (fun j => (rd_Ok_N h2 j).1) h3 (fun fs fd fb dl al ch sp ah bv fi hS => ?_)
  exact rd_Yzigzag (fun j => (rd_Ok_N h1 j).2) (fun j => (rd_Ok_N h1 j).1) (fun j => (rd_Ok_N h2 j).2) (fun j => (rd_Ok_N h2 j).1) ⟨rfl, rd_mk h1 h2 (Or.inr hS)⟩
end
