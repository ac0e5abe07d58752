section
/-! rows pasted from the kit: pk_ -/
theorem pk_us {f : Nat → Int32} {k : Nat} {x : Int32} : upd f k x k = x := if_pos rfl
theorem pk_un {f : Nat → Int32} {k j : Nat} {x : Int32} (h : j ≠ k) : upd f k x j = f j := if_neg h
theorem pk_sub {a b : Nat} (h : b ≤ a) : nI a - nI b = nI (a - b) := by
  obtain ⟨c, rfl⟩ : ∃ c, a = c + b := ⟨a - b, by omega⟩
  rw [← nI_add, Int32.add_sub_cancel, Nat.add_sub_cancel]
theorem pk_mul (a b : Nat) : nI a * nI b = nI (a * b) := (Int32.ofNat_mul a b).symm
theorem pk_div {a d : Nat} (ha : a < 2 ^ 31) (h0 : 0 < d) (hd : d < 2 ^ 31) : nI a / nI d = nI (a / d) := by
  apply Int32.toInt_inj.mp
  rw [lg_idiv_nonneg (by rw [nI_toInt ha]; omega) (by rw [nI_toInt hd]; omega), nI_toInt ha, nI_toInt hd, nI_toInt (Nat.lt_of_le_of_lt (Nat.div_le_self a d) ha)]
  first | rfl | exact (Int.natCast_ediv _ _).symm
theorem pk_rem {a d : Nat} (ha : a < 2 ^ 31) (h0 : 0 < d) (hd : d < 2 ^ 31) : nI a - nI a / nI d * nI d = nI (a % d) := by
  rw [pk_div ha h0 hd, pk_mul, pk_sub (Nat.div_mul_le_self a d)]
  exact congrArg nI (by have := Nat.div_add_mod' a d; omega)
theorem pk_sub_toInt {a b : Nat} (ha : a < 2 ^ 30) (hb : b < 2 ^ 30) : (nI a - nI b).toInt = (a : Int) - b := by
  rw [Int32.toInt_sub, nI_toInt (by omega), nI_toInt (by omega)]
  exact Int.bmod_eq_of_le (by omega) (by omega)
theorem pk_sneg {a b : Nat} (hb : b < 2 ^ 30) (h : a < b) : nI a - nI b < 0 := by
  rw [Int32.lt_iff_toInt_lt, pk_sub_toInt (by omega) hb, show (0 : Int32).toInt = 0 from by decide]
  omega
theorem pk_ix (x : Int32) {n : Nat} (hn : n < 2 ^ 31) : x < 0 ∨ nI n ≤ x ∨ ∃ j : Nat, j < n ∧ x = nI j := by
  by_cases h : x < 0
  · exact Or.inl h
  · obtain ⟨j, hj, rfl⟩ := nI_of h
    by_cases h2 : j < n
    · exact Or.inr (Or.inr ⟨j, h2, rfl⟩)
    · exact Or.inr (Or.inl (nI_le (by omega) hj))
theorem pk_le {x y : Int32} {A B : Prop} (a b : Nat) (f : a ≤ b → A) (g : b < a → B) (hx : x = nI a := by rfl) (hy : y = nI b := by rfl) (ha : a < 2 ^ 31 := by omega) (hb : b < 2 ^ 31 := by omega) : (x ≤ y → A) ∧ (¬ x ≤ y → B) := by
  subst hx hy
  rw [nI_leI ha hb]
  exact ⟨f, fun z => g (by omega)⟩
theorem pk_lt {x y : Int32} {A B : Prop} (a b : Nat) (f : a < b → A) (g : b ≤ a → B) (hx : x = nI a := by rfl) (hy : y = nI b := by rfl) (ha : a < 2 ^ 31 := by omega) (hb : b < 2 ^ 31 := by omega) : (x < y → A) ∧ (¬ x < y → B) := by
  subst hx hy
  rw [nI_ltI ha hb]
  exact ⟨f, fun z => g (by omega)⟩
theorem pk_eq {x y : Int32} {A B : Prop} (a b : Nat) (f : a = b → A) (g : a ≠ b → B) (hx : x = nI a := by rfl) (hy : y = nI b := by rfl) (ha : a < 2 ^ 31 := by omega) (hb : b < 2 ^ 31 := by omega) : (x = y → A) ∧ (¬ x = y → B) := by
  subst hx hy
  rw [nI_eq ha hb]
  exact ⟨f, g⟩
theorem pk_in {x : Int32} (n N : Nat) (h : n < N) (hx : x = nI n := by rfl) (hN : N < 2 ^ 31 := by omega) : vp_in x N := by
  subst hx
  exact vp_in_nI h hN
theorem pk_cl {x : Int32} (n : Nat) (hx : x = nI n := by rfl) (h : n < 2 ^ 31 := by omega) : x.toNatClampNeg = n := by
  subst hx
  exact nI_clamp h
end
section
/-! plain arithmetic: divisors of 360, a common-divisor row, the greatest room beside one job -/
theorem so_md {q x y a b : Nat} (hq : q ∣ 360) (h : x + 360 * a = y + 360 * b) : x % q = y % q := by
  obtain ⟨f, hf⟩ := hq
  rw [hf, Nat.mul_assoc, Nat.mul_assoc] at h
  rw [← Nat.add_mul_mod_self_left x q (f * a), h, Nat.add_mul_mod_self_left]
theorem so_bz (x y : Nat) : ∃ a b : Int, a * (x : Int) + b * (y : Int) = ((Nat.gcd x y : Nat) : Int) := by
  induction x, y using Nat.gcd.induction with
  | H0 n => exact ⟨0, 1, by simp⟩
  | H1 m n hm ih =>
    obtain ⟨a, b, h⟩ := ih
    refine ⟨b - a * ((n / m : Nat) : Int), a, ?_⟩
    rw [Nat.gcd_rec m n, ← h]
    have e : (n : Int) = (m : Int) * ((n / m : Nat) : Int) + ((n % m : Nat) : Int) := by
      rw [← Int.natCast_mul, ← Int.natCast_add, Nat.div_add_mod]
    generalize ((n / m : Nat) : Int) = d at e ⊢
    generalize ((n % m : Nat) : Int) = r at e ⊢
    rw [e]
    grind
theorem so_crt (A p q : Nat) (hq : 0 < q) : ∃ k, (A + k * p) % q = A % Nat.gcd p q := by
  obtain ⟨a, b, h⟩ := so_bz p q
  have hg : 0 < Nat.gcd p q := Nat.gcd_pos_of_pos_right p hq
  have hgq : Nat.gcd p q ≤ q := Nat.gcd_le_right p hq
  generalize Nat.gcd p q = g at h hg hgq ⊢
  have hA : g * (A / g) + A % g = A := Nat.div_add_mod A g
  have hr : A % g < g := Nat.mod_lt A hg
  generalize A / g = m at hA
  generalize A % g = r at hA hr ⊢
  have hk0 : 0 ≤ (-a * (m : Int)) % (q : Int) := Int.emod_nonneg _ (by omega)
  have hk1 := Int.emod_add_mul_ediv (-a * (m : Int)) (q : Int)
  generalize (-a * (m : Int)) / (q : Int) = d at hk1
  obtain ⟨k, hk⟩ := Int.eq_ofNat_of_zero_le hk0
  rw [hk] at hk1
  refine ⟨k, ?_⟩
  have hA2 : (g : Int) * (m : Int) + (r : Int) = (A : Int) := by
    rw [← Int.natCast_mul, ← Int.natCast_add, hA]
  have e : ((A + k * p : Nat) : Int) = (r : Int) + (q : Int) * ((m : Int) * b - d * (p : Int)) := by
    rw [Int.natCast_add, Int.natCast_mul, ← hA2, ← h]
    have hk2 : (k : Int) = -a * (m : Int) - (q : Int) * d := by omega
    rw [hk2]
    grind
  have e2 : ((A + k * p : Nat) : Int) % (q : Int) = (r : Int) := by
    rw [e, Int.add_mul_emod_self_left, Int.emod_eq_of_lt (by omega) (by omega)]
  exact Int.natCast_inj.mp ((Int.natCast_emod _ _).trans e2)
theorem so_cut (p m : Nat) (hp : 0 < p) (hpd : p ∣ 360) : ∃ k d, k * p < 360 ∧ m * p = k * p + 360 * d := by
  obtain ⟨e, he⟩ := hpd
  have he0 : 0 < e := by
    rcases Nat.eq_zero_or_pos e with h | h
    · rw [h] at he; omega
    · exact h
  refine ⟨m % e, m / e, ?_, ?_⟩
  · rw [he, Nat.mul_comm p e]
    exact Nat.mul_lt_mul_of_pos_right (Nat.mod_lt m he0) hp
  · have hd := Nat.div_add_mod m e
    calc m * p = (e * (m / e) + m % e) * p := by rw [hd]
      _ = m % e * p + (p * e) * (m / e) := by grind
      _ = m % e * p + 360 * (m / e) := by rw [← he]
theorem so_crt3 (A p q : Nat) (hp : 0 < p) (hpd : p ∣ 360) (hq : 0 < q) (hqd : q ∣ 360) : ∃ k, k * p < 360 ∧ (A + k * p) % q = A % Nat.gcd p q := by
  obtain ⟨m, hm⟩ := so_crt A p q hq
  obtain ⟨k, d, hk, hd⟩ := so_cut p m hp hpd
  refine ⟨k, hk, ?_⟩
  rw [← hm]
  exact so_md (a := d) (b := 0) hqd (by omega)
/-- the greatest length beside one job: what the component reckons -/
def so_bs (p o q c j : Nat) : Nat := if (o + 360 - j) % Nat.gcd p q < c then 0 else Nat.gcd p q - (o + 360 - j) % Nat.gcd p q
theorem so_bs_le {p o q c j : Nat} (hp : 0 < p) : so_bs p o q c j ≤ p := by
  have h : Nat.gcd p q ≤ p := Nat.gcd_le_left q hp
  unfold so_bs
  split <;> omega
theorem so_bs_a {p o q c j i k : Nat} (hq : 0 < q) (hj : j ≤ 360) (hi : i < so_bs p o q c j) : ¬ (360 + (o + i + k * p) - j) % q < c := by
  intro h
  have hg : 0 < Nat.gcd p q := Nat.gcd_pos_of_pos_right p hq
  have g1 : Nat.gcd p q ∣ p := Nat.gcd_dvd_left p q
  have g2 : Nat.gcd p q ∣ q := Nat.gcd_dvd_right p q
  unfold so_bs at hi
  generalize Nat.gcd p q = g at hi hg g1 g2
  by_cases hb : (o + 360 - j) % g < c
  · rw [if_pos hb] at hi; omega
  · rw [if_neg hb] at hi
    have hlt : (o + 360 - j) % g < g := Nat.mod_lt _ hg
    have e1 : (360 + (o + i + k * p) - j) % q % g = (o + 360 - j) % g + i := by
      rw [Nat.mod_mod_of_dvd _ g2]
      obtain ⟨m, hm⟩ := g1
      have e : 360 + (o + i + k * p) - j = ((o + 360 - j) + i) + g * (m * k) := by
        have e3 : k * p = g * (m * k) := by rw [hm, Nat.mul_comm, Nat.mul_assoc]
        rw [← e3]; omega
      rw [e, Nat.add_mul_mod_self_left, ← Nat.mod_add_mod, Nat.mod_eq_of_lt (by omega)]
    have e2 := Nat.mod_le ((360 + (o + i + k * p) - j) % q) g
    omega
theorem so_bs_b {p o q c j : Nat} (hp : 0 < p) (hpd : p ∣ 360) (hq : 0 < q) (hqd : q ∣ 360) (hj : j ≤ 360) (hc : 1 ≤ c) : ∃ k, k * p < 360 ∧ (360 + (o + so_bs p o q c j + k * p) - j) % q < c := by
  obtain ⟨k, hk, e⟩ := so_crt3 (o + 360 - j + so_bs p o q c j) p q hp hpd hq hqd
  refine ⟨k, hk, ?_⟩
  have e1 : 360 + (o + so_bs p o q c j + k * p) - j = o + 360 - j + so_bs p o q c j + k * p := by omega
  rw [e1, e]
  have hg : 0 < Nat.gcd p q := Nat.gcd_pos_of_pos_right p hq
  unfold so_bs
  generalize Nat.gcd p q = g at hg ⊢
  have hlt : (o + 360 - j) % g < g := Nat.mod_lt _ hg
  by_cases hb : (o + 360 - j) % g < c
  · rw [if_pos hb]; exact hb
  · rw [if_neg hb, ← Nat.mod_add_mod, show (o + 360 - j) % g + (g - (o + 360 - j) % g) = g from by omega, Nat.mod_self]
    exact hc
end
section
/-! counts, sums, the greatest run from 0, the first index -/
def so_cn (f : Nat → Bool) : Nat → Nat
  | 0 => 0
  | n + 1 => so_cn f n + (if f n = true then 1 else 0)
def so_sm (f : Nat → Nat) : Nat → Nat
  | 0 => 0
  | n + 1 => so_sm f n + f n
def so_ld (f : Nat → Bool) : Nat → Nat
  | 0 => 0
  | n + 1 => if so_ld f n = n ∧ f n = true then n + 1 else so_ld f n
theorem so_cn_le (f : Nat → Bool) : ∀ n, so_cn f n ≤ n := by
  intro n
  induction n with
  | zero => exact Nat.le_refl 0
  | succ n ih => unfold so_cn; split <;> omega
theorem so_cn_congr {f g : Nat → Bool} : ∀ n, (∀ s, s < n → f s = g s) → so_cn f n = so_cn g n := by
  intro n
  induction n with
  | zero => intro _; rfl
  | succ n ih =>
    intro h
    unfold so_cn
    rw [ih (fun s hs => h s (by omega)), h n (by omega)]
theorem so_cn_0 {f : Nat → Bool} (n : Nat) (h : ∀ s, s < n → f s = false) : so_cn f n = 0 := by
  induction n with
  | zero => rfl
  | succ n ih =>
    unfold so_cn
    rw [ih (fun s hs => h s (by omega)), h n (by omega)]
    rfl
theorem so_cn_add (f : Nat → Bool) (a : Nat) : ∀ m, so_cn f (a + m) = so_cn f a + so_cn (fun s => f (a + s)) m := by
  intro m
  induction m with
  | zero => rfl
  | succ m ih =>
    show so_cn f (a + m) + _ = so_cn f a + (so_cn (fun s => f (a + s)) m + _)
    rw [ih, Nat.add_assoc]
    rfl
theorem so_cn_cut (f : Nat → Bool) (r m : Nat) : so_cn (fun s => f s && decide (s < r)) (r + m) = so_cn f r := by
  rw [so_cn_add]
  rw [so_cn_congr (f := fun s => f s && decide (s < r)) (g := f) r (fun s hs => by show (f s && decide (s < r)) = f s; rw [decide_eq_true hs, Bool.and_true])]
  rw [so_cn_0 (f := fun s => f (r + s) && decide (r + s < r)) m (fun s _ => by show (f (r + s) && decide (r + s < r)) = false; rw [decide_eq_false (by omega), Bool.and_false])]
  rfl
theorem so_cn_not (f : Nat → Bool) : ∀ n, so_cn f n + so_cn (fun s => !f s) n = n := by
  intro n
  induction n with
  | zero => rfl
  | succ n ih =>
    show so_cn f n + (if f n = true then 1 else 0) + (so_cn (fun s => !f s) n + (if (!f n) = true then 1 else 0)) = n + 1
    cases f n <;> simp <;> omega
theorem so_cn_per (h : Nat → Bool) (hp : ∀ s, h (s + 360) = h s) : ∀ d r, so_cn h (360 * d + r) = so_cn h 360 * d + so_cn h r := by
  intro d
  induction d with
  | zero => intro r; simp
  | succ d ih =>
    intro r
    have e : 360 * (d + 1) + r = 360 + (360 * d + r) := by omega
    have e2 : so_cn (fun s => h (360 + s)) (360 * d + r) = so_cn h (360 * d + r) :=
      so_cn_congr _ (fun s _ => by show h (360 + s) = h s; rw [Nat.add_comm]; exact hp s)
    rw [e, so_cn_add, e2, ih r, Nat.mul_succ]
    omega
theorem so_cn_q {q c : Nat} (hq : 0 < q) (hc : c ≤ q) : ∀ m, so_cn (fun s => decide (s % q < c)) m = m / q * c + min (m % q) c := by
  intro m
  induction m with
  | zero => simp [so_cn]
  | succ m ih =>
    show so_cn (fun s => decide (s % q < c)) m + (if decide (m % q < c) = true then 1 else 0) = _
    rw [ih]
    have hd := Nat.div_add_mod m q
    have hr : m % q < q := Nat.mod_lt m hq
    generalize m / q = d at hd ⊢
    generalize m % q = r at hd hr ⊢
    by_cases h : r + 1 < q
    · obtain ⟨e1, e2⟩ := (Nat.div_mod_unique (a := m + 1) (b := q) (d := d) (c := r + 1) hq).mpr ⟨by omega, h⟩
      rw [e1, e2]
      by_cases h2 : r < c
      · rw [if_pos (decide_eq_true h2), Nat.min_eq_left (by omega), Nat.min_eq_left (by omega)]; omega
      · rw [if_neg (by simp [h2]), Nat.min_eq_right (by omega), Nat.min_eq_right (by omega)]
        omega
    · obtain ⟨e1, e2⟩ := (Nat.div_mod_unique (a := m + 1) (b := q) (d := d + 1) (c := 0) hq).mpr ⟨by rw [Nat.mul_succ]; omega, hq⟩
      rw [e1, e2, Nat.succ_mul]
      by_cases h2 : r < c
      · rw [if_pos (decide_eq_true h2), Nat.min_eq_left (by omega), Nat.min_eq_left (by omega)]; omega
      · rw [if_neg (by simp [h2]), Nat.min_eq_right (by omega), Nat.min_eq_left (by omega)]
theorem so_sm_congr {f g : Nat → Nat} : ∀ n, (∀ s, s < n → f s = g s) → so_sm f n = so_sm g n := by
  intro n
  induction n with
  | zero => intro _; rfl
  | succ n ih =>
    intro h
    unfold so_sm
    rw [ih (fun s hs => h s (by omega)), h n (by omega)]
theorem so_sm_add (f g : Nat → Nat) : ∀ n, so_sm (fun i => f i + g i) n = so_sm f n + so_sm g n := by
  intro n
  induction n with
  | zero => rfl
  | succ n ih =>
    show so_sm (fun i => f i + g i) n + (f n + g n) = so_sm f n + f n + (so_sm g n + g n)
    omega
theorem so_sm_0 {f : Nat → Bool} (n : Nat) (h : ∀ i, i < n → f i = false) : so_sm (fun i => if f i = true then 1 else 0) n = 0 := by
  induction n with
  | zero => rfl
  | succ n ih =>
    show so_sm (fun i => if f i = true then 1 else 0) n + (if f n = true then 1 else 0) = 0
    rw [ih (fun s hs => h s (by omega)), h n (by omega)]
    rfl
theorem so_sm_1 {f : Nat → Bool} (k : Nat) (n : Nat) (hk : k < n) (ht : f k = true) (h : ∀ i, i < n → i ≠ k → f i = false) : so_sm (fun i => if f i = true then 1 else 0) n = 1 := by
  induction n with
  | zero => omega
  | succ n ih =>
    show so_sm (fun i => if f i = true then 1 else 0) n + (if f n = true then 1 else 0) = 1
    by_cases e : k = n
    · rw [so_sm_0 n (fun i hi => h i (by omega) (by omega)), ← e, ht]
      rfl
    · rw [ih (by omega) (fun i hi => h i (by omega)), h n (by omega) (by omega)]
      rfl
theorem so_ld_le (f : Nat → Bool) : ∀ n, so_ld f n ≤ n := by
  intro n
  induction n with
  | zero => exact Nat.le_refl 0
  | succ n ih => unfold so_ld; split <;> omega
theorem so_ld_u (f : Nat → Bool) : ∀ n r, r ≤ n → (∀ i, i < r → f i = true) → (r < n → f r = false) → so_ld f n = r := by
  intro n
  induction n with
  | zero => intro r h _ _; show 0 = r; omega
  | succ n ih =>
    intro r h1 h2 h3
    unfold so_ld
    by_cases e : r = n + 1
    · have e1 : so_ld f n = n := ih n (Nat.le_refl n) (fun i hi => h2 i (by omega)) (fun z => absurd z (Nat.lt_irrefl n))
      rw [if_pos ⟨e1, h2 n (by omega)⟩, e]
    · have e1 : so_ld f n = r := ih r (by omega) h2 (fun z => h3 (by omega))
      rw [if_neg, e1]
      rintro ⟨a, b⟩
      have e2 : r = n := by omega
      rw [← e2, h3 (by omega)] at b
      cases b
theorem so_ld_t (f : Nat → Bool) : ∀ n i, i < so_ld f n → f i = true := by
  intro n
  induction n with
  | zero => intro i h; exact absurd h (Nat.not_lt_zero i)
  | succ n ih =>
    intro i h
    unfold so_ld at h
    by_cases e : so_ld f n = n ∧ f n = true
    · rw [if_pos e] at h
      by_cases e2 : i = n
      · rw [e2]; exact e.2
      · exact ih i (by omega)
    · rw [if_neg e] at h
      exact ih i h
end
section
/-! the jobs as plain numbers: Q the periods (0: none), C the lengths, O the offsets -/
def so_rn (Q C O : Nat → Nat) (i t : Nat) : Bool := decide (Q i ≠ 0 ∧ O i ≤ t ∧ (t - O i) % Q i < C i)
noncomputable def so_fr (Q C O : Nat → Nat) (t : Nat) : Bool := @decide (∀ i, i < 10 → so_rn Q C O i t = false) (Classical.propDecidable _)
/-- a job's numbers -/
def so_job (q c o : Nat) : Prop := 2 ≤ q ∧ q ≤ 360 ∧ q ∣ 360 ∧ 1 ≤ c ∧ c ≤ q ∧ o < q
def so_wf (Q C O : Nat → Nat) : Prop := ∀ i, i < 10 → Q i ≠ 0 → so_job (Q i) (C i) (O i)
def so_Dj (Q C O : Nat → Nat) : Prop := ∀ i j t, i < 10 → j < 10 → i ≠ j → so_rn Q C O i t = true → so_rn Q C O j t = true → False
/-- whether the slots i behind the offset o are free in every period -/
noncomputable def so_ok (Q C O : Nat → Nat) (p o i : Nat) : Bool := @decide (∀ k, k * p < 360 → so_fr Q C O (360 + (o + i + k * p)) = true) (Classical.propDecidable _)
noncomputable def so_rm (Q C O : Nat → Nat) (p o : Nat) : Nat := so_ld (so_ok Q C O p o) p
def so_rb (q c o t : Nat) : Nat := if t ≤ o then 0 else (t - o) / q * c + min ((t - o) % q) c
section
variable {Q C O : Nat → Nat}
theorem so_rn_iff {i t : Nat} : so_rn Q C O i t = true ↔ Q i ≠ 0 ∧ O i ≤ t ∧ (t - O i) % Q i < C i := decide_eq_true_iff
theorem so_rn_f {i t : Nat} : so_rn Q C O i t = false ↔ ¬ (Q i ≠ 0 ∧ O i ≤ t ∧ (t - O i) % Q i < C i) := decide_eq_false_iff_not
theorem so_fr_iff {t : Nat} : so_fr Q C O t = true ↔ ∀ i, i < 10 → so_rn Q C O i t = false := @decide_eq_true_iff _ (Classical.propDecidable _)
theorem so_fr_f {t : Nat} (i : Nat) (hi : i < 10) (h : so_rn Q C O i t = true) : so_fr Q C O t = false := by
  cases e : so_fr Q C O t with
  | false => rfl
  | true => rw [so_fr_iff.mp e i hi] at h; cases h
theorem so_ok_iff {p o i : Nat} (hp : 0 < p) : so_ok Q C O p o i = true ↔ ∀ k, k * p < 360 → so_fr Q C O (360 + (o + i + k * p)) = true := @decide_eq_true_iff _ (Classical.propDecidable _)
theorem so_ok_f {p o i : Nat} (hp : 0 < p) (k : Nat) (hk : k * p < 360) (h : so_fr Q C O (360 + (o + i + k * p)) = false) : so_ok Q C O p o i = false := by
  cases e : so_ok Q C O p o i with
  | false => rfl
  | true => rw [(so_ok_iff hp).mp e k hk] at h; cases h
theorem so_rn_sh (W : so_wf Q C O) {i t : Nat} (hi : i < 10) (ht : 360 ≤ t) : so_rn Q C O i (t + 360) = so_rn Q C O i t := by
  by_cases h0 : Q i = 0
  · rw [so_rn_f.mpr (fun z => z.1 h0), so_rn_f.mpr (fun z => z.1 h0)]
  · obtain ⟨j1, j2, j3, j4, j5, j6⟩ := W i hi h0
    have e : (t + 360 - O i) % Q i = (t - O i) % Q i := so_md (a := 0) (b := 1) j3 (by omega)
    unfold so_rn
    rw [e]
    exact decide_eq_decide.mpr ⟨fun z => ⟨z.1, by omega, z.2.2⟩, fun z => ⟨z.1, by omega, z.2.2⟩⟩
theorem so_fr_sh (W : so_wf Q C O) {t : Nat} (ht : 360 ≤ t) : so_fr Q C O (t + 360) = so_fr Q C O t := by
  exact Bool.eq_iff_iff.mpr ⟨fun z => so_fr_iff.mpr (fun i hi => (so_rn_sh W hi ht).symm.trans (so_fr_iff.mp z i hi)), fun z => so_fr_iff.mpr (fun i hi => (so_rn_sh W hi ht).trans (so_fr_iff.mp z i hi))⟩
/-- a new job that the room allows meets no other -/
theorem so_new (W : so_wf Q C O) {p c o : Nat} (hp : 0 < p) (hpd : p ∣ 360) (h : c ≤ so_rm Q C O p o) {t j : Nat} (hj : j < 10) (h1 : o ≤ t) (h2 : (t - o) % p < c) (hr : so_rn Q C O j t = true) : False := by
  obtain ⟨r1, r2, r3⟩ := so_rn_iff.mp hr
  obtain ⟨j1, j2, j3, j4, j5, j6⟩ := W j hj r1
  have hok := (so_ok_iff hp).mp (so_ld_t _ p _ (Nat.lt_of_lt_of_le h2 h))
  obtain ⟨k, d, hk, hd⟩ := so_cut p ((t - o) / p) hp hpd
  have hdm := Nat.div_add_mod' (t - o) p
  have hf := so_fr_iff.mp (hok k hk) j hj
  have e : (360 + (o + (t - o) % p + k * p) - O j) % Q j = (t - O j) % Q j := so_md (a := d) (b := 1) j3 (by omega)
  refine so_rn_f.mp hf ⟨r1, by omega, ?_⟩
  rw [e]; exact r3
/-- in every slot one job runs, or none -/
theorem so_one (D : so_Dj Q C O) (t : Nat) : (if so_fr Q C O t = true then 1 else 0) + so_sm (fun i => if so_rn Q C O i t = true then 1 else 0) 10 = 1 := by
  by_cases h : so_fr Q C O t = true
  · rw [if_pos h, so_sm_0 (f := fun i => so_rn Q C O i t) 10 (so_fr_iff.mp h)]
  · rw [if_neg h]
    have h2 : ¬ ∀ i, i < 10 → so_rn Q C O i t = false := fun z => h (so_fr_iff.mpr z)
    have h3 : ∃ i, i < 10 ∧ so_rn Q C O i t = true := by
      apply Classical.byContradiction
      intro z
      apply h2
      intro i hi
      cases e : so_rn Q C O i t with
      | false => rfl
      | true => exact absurd ⟨i, hi, e⟩ z
    obtain ⟨k, hk, ht⟩ := h3
    rw [so_sm_1 (f := fun i => so_rn Q C O i t) k 10 hk ht]
    intro i hi hne
    cases e : so_rn Q C O i t with
    | false => rfl
    | true => exact absurd (D i k t hi hk hne e ht) (fun z => z)
theorem so_total (D : so_Dj Q C O) : ∀ n, so_cn (so_fr Q C O) n + so_sm (fun i => so_cn (so_rn Q C O i) n) 10 = n := by
  intro n
  induction n with
  | zero => rfl
  | succ n ih =>
    have e : so_sm (fun i => so_cn (so_rn Q C O i) (n + 1)) 10 = so_sm (fun i => so_cn (so_rn Q C O i) n) 10 + so_sm (fun i => if so_rn Q C O i n = true then 1 else 0) 10 := so_sm_add _ _ 10
    have e2 : so_cn (so_fr Q C O) (n + 1) = so_cn (so_fr Q C O) n + (if so_fr Q C O n = true then 1 else 0) := rfl
    have e3 := so_one D n
    omega
theorem so_ran (W : so_wf Q C O) {i : Nat} (hi : i < 10) (h0 : Q i ≠ 0) (n : Nat) : so_cn (so_rn Q C O i) n = so_rb (Q i) (C i) (O i) n := by
  obtain ⟨j1, j2, j3, j4, j5, j6⟩ := W i hi h0
  unfold so_rb
  by_cases h : n ≤ O i
  · rw [if_pos h]
    exact so_cn_0 n (fun s hs => so_rn_f.mpr (fun z => by have := z.2.1; omega))
  · rw [if_neg h]
    have e : so_cn (so_rn Q C O i) (O i + (n - O i)) = so_cn (so_rn Q C O i) n := by
      rw [show O i + (n - O i) = n from by omega]
    rw [← e, so_cn_add, so_cn_0 (O i) (fun s hs => so_rn_f.mpr (fun z => by have := z.2.1; omega)), ← so_cn_q (by omega) j5, Nat.zero_add]
    refine so_cn_congr _ (fun s _ => ?_)
    show so_rn Q C O i (O i + s) = decide (s % Q i < C i)
    unfold so_rn
    rw [show O i + s - O i = s from by omega]
    exact decide_eq_decide.mpr ⟨fun z => z.2.2, fun z => ⟨h0, by omega, z⟩⟩
def so_S (Q C O : Nat → Nat) (n : Nat) : Nat → Nat := so_sm (fun i => if Q i = 0 then 0 else so_rb (Q i) (C i) (O i) n)
theorem so_free (W : so_wf Q C O) (D : so_Dj Q C O) (n : Nat) : so_cn (so_fr Q C O) n + so_S Q C O n 10 = n := by
  have e : so_S Q C O n 10 = so_sm (fun i => so_cn (so_rn Q C O i) n) 10 := by
    refine so_sm_congr 10 (fun i hi => ?_)
    by_cases h0 : Q i = 0
    · show (if Q i = 0 then 0 else so_rb (Q i) (C i) (O i) n) = so_cn (so_rn Q C O i) n
      rw [if_pos h0, so_cn_0 n (fun s _ => so_rn_f.mpr (fun z => z.1 h0))]
    · show (if Q i = 0 then 0 else so_rb (Q i) (C i) (O i) n) = so_cn (so_rn Q C O i) n
      rw [if_neg h0, so_ran W hi h0]
  rw [e]; exact so_total D n
/-- the reference's count by cycles -/
noncomputable def so_F (Q C O : Nat → Nat) (n r s : Nat) : Bool := so_fr Q C O s && (decide (s < 360) && decide (s < n) || decide (360 ≤ s) && decide (s < 360 + r))
noncomputable def so_G (Q C O : Nat → Nat) (s : Nat) : Bool := so_fr Q C O s && decide (360 ≤ s)
theorem so_cyc (W : so_wf Q C O) {n : Nat} (hn : 360 < n) : so_cn (so_F Q C O n ((n - 360) % 360)) 720 + so_cn (so_G Q C O) 720 * ((n - 360) / 360) = so_cn (so_fr Q C O) n := by
  have hm : (n - 360) % 360 < 360 := Nat.mod_lt _ (by omega)
  have hdm := Nat.div_add_mod (n - 360) 360
  generalize (n - 360) % 360 = r at hm hdm ⊢
  generalize (n - 360) / 360 = d at hdm ⊢
  have e1 : so_cn (so_F Q C O n r) 720 = so_cn (so_fr Q C O) 360 + so_cn (fun s => so_fr Q C O (360 + s)) r := by
    rw [show (720 : Nat) = 360 + 360 from rfl, so_cn_add]
    rw [so_cn_congr (f := so_F Q C O n r) (g := so_fr Q C O) 360 (fun s hs => by
      unfold so_F
      rw [decide_eq_true hs, decide_eq_true (show s < n by omega), Bool.true_and, Bool.true_or, Bool.and_true])]
    rw [so_cn_congr (f := fun s => so_F Q C O n r (360 + s)) (g := fun s => so_fr Q C O (360 + s) && decide (s < r)) 360 (fun s hs => by
      show so_F Q C O n r (360 + s) = (so_fr Q C O (360 + s) && decide (s < r))
      unfold so_F
      rw [decide_eq_false (show ¬ 360 + s < 360 by omega), decide_eq_true (show 360 ≤ 360 + s by omega), Bool.false_and, Bool.false_or, Bool.true_and]
      rw [show decide (360 + s < 360 + r) = decide (s < r) from decide_eq_decide.mpr ⟨fun z => by omega, fun z => by omega⟩])]
    have e0 : r + (360 - r) = 360 := by omega
    have e := so_cn_cut (fun s => so_fr Q C O (360 + s)) r (360 - r)
    rw [e0] at e
    rw [e]
  have e2 : so_cn (so_G Q C O) 720 = so_cn (fun s => so_fr Q C O (360 + s)) 360 := by
    rw [show (720 : Nat) = 360 + 360 from rfl, so_cn_add]
    rw [so_cn_0 (f := so_G Q C O) 360 (fun s hs => by
      unfold so_G
      rw [decide_eq_false (show ¬ 360 ≤ s by omega), Bool.and_false]), Nat.zero_add]
    exact so_cn_congr _ (fun s _ => by
      show so_G Q C O (360 + s) = so_fr Q C O (360 + s)
      unfold so_G
      rw [decide_eq_true (show 360 ≤ 360 + s by omega), Bool.and_true])
  have e3 : so_cn (so_fr Q C O) n = so_cn (so_fr Q C O) 360 + so_cn (fun s => so_fr Q C O (360 + s)) (360 * d + r) := by
    rw [← so_cn_add, show 360 + (360 * d + r) = n from by omega]
  have e4 := so_cn_per (fun s => so_fr Q C O (360 + s)) (fun s => by
    show so_fr Q C O (360 + (s + 360)) = so_fr Q C O (360 + s)
    rw [← Nat.add_assoc]
    exact so_fr_sh W (by omega)) d r
  rw [e1, e2, e3, e4]
  omega
theorem so_cyc0 {n : Nat} (hn : n ≤ 360) : so_cn (so_F Q C O n 0) 720 = so_cn (so_fr Q C O) n := by
  have e : so_cn (so_F Q C O n 0) 720 = so_cn (fun s => so_fr Q C O s && decide (s < n)) (n + (720 - n)) := by
    rw [show n + (720 - n) = 720 from by omega]
    refine so_cn_congr _ (fun s _ => ?_)
    show so_F Q C O n 0 s = (so_fr Q C O s && decide (s < n))
    unfold so_F
    by_cases h : s < 360
    · rw [decide_eq_true h, decide_eq_false (show ¬ 360 ≤ s by omega), Bool.true_and, Bool.false_and, Bool.or_false]
    · rw [decide_eq_false h, decide_eq_false (show ¬ s < n by omega)]; simp
  rw [e, so_cn_cut]
/-- the load of a cycle -/
def so_L (Q C : Nat → Nat) : Nat → Nat := so_sm (fun i => if Q i = 0 then 0 else 360 / Q i * C i)
theorem so_rb_cyc {q c o : Nat} (h : so_job q c o) : so_rb q c o 720 = so_rb q c o 360 + 360 / q * c := by
  obtain ⟨j1, j2, j3, j4, j5, j6⟩ := h
  unfold so_rb
  rw [if_neg (by omega), if_neg (by omega)]
  obtain ⟨f, hf⟩ := j3
  have e : 720 - o = (360 - o) + q * f := by omega
  have e1 : (720 - o) / q = (360 - o) / q + f := by rw [e, Nat.add_mul_div_left _ _ (by omega)]
  have e2 : (720 - o) % q = (360 - o) % q := by rw [e, Nat.add_mul_mod_self_left]
  have e3 : 360 / q = f := by rw [hf]; exact Nat.mul_div_cancel_left f (by omega)
  rw [e1, e2, e3, Nat.add_mul]
  omega
theorem so_load (W : so_wf Q C O) (D : so_Dj Q C O) : so_cn (fun s => !so_fr Q C O (360 + s)) 360 = so_L Q C 10 := by
  have h1 := so_free W D 720
  have h2 := so_free W D 360
  have h3 := so_cn_not (fun s => so_fr Q C O (360 + s)) 360
  have h4 : so_cn (so_fr Q C O) 720 = so_cn (so_fr Q C O) 360 + so_cn (fun s => so_fr Q C O (360 + s)) 360 := so_cn_add (so_fr Q C O) 360 360
  have h5 : so_S Q C O 720 10 = so_S Q C O 360 10 + so_L Q C 10 := by
    have e := so_sm_add (fun i => if Q i = 0 then 0 else so_rb (Q i) (C i) (O i) 360) (fun i => if Q i = 0 then 0 else 360 / Q i * C i) 10
    refine Eq.trans ?_ e
    refine so_sm_congr 10 (fun i hi => ?_)
    show (if Q i = 0 then 0 else so_rb (Q i) (C i) (O i) 720) = (if Q i = 0 then 0 else so_rb (Q i) (C i) (O i) 360) + (if Q i = 0 then 0 else 360 / Q i * C i)
    by_cases h0 : Q i = 0
    · rw [if_pos h0, if_pos h0, if_pos h0]
    · rw [if_neg h0, if_neg h0, if_neg h0, so_rb_cyc (W i hi h0)]
  omega
end
end
section
/-! the two states against the plain numbers; the small methods of both sides -/
def so_St (Q C O : Nat → Nat) (aU aP aC aO aQ : Nat → Int32) : Prop := ∀ i, i < 10 → aU i = (if Q i = 0 then 0 else 1) ∧ aQ i = nI (Q i) ∧ (Q i ≠ 0 → aP i = nI (Q i) ∧ aC i = nI (C i) ∧ aO i = nI (O i))
theorem so_badP (v : Int32) : (∀ (post : Int32 → Prop) (w : SY), post 1 → wpX_badPeriod post v ∧ wpY_badPeriod post w v) ∨ (∃ p, v = nI p ∧ 2 ≤ p ∧ p ≤ 360 ∧ p ∣ 360 ∧ ∀ (post : Int32 → Prop) (w : SY), post 0 → wpX_badPeriod post v ∧ wpY_badPeriod post w v) := by
  by_cases h1 : v < 2
  · exact Or.inl (fun post ⟨a, b, c⟩ h => ⟨br_t h1 h, br_t h1 h⟩)
  · have h0 : ¬ v < 0 := fun z => h1 (Int32.lt_trans z (by decide))
    obtain ⟨p, hp, rfl⟩ := nI_of h0
    have g1 : ¬ p < 2 := fun z => h1 (nI_lt (b := 2) z (by decide))
    by_cases h2 : 360 < p
    · exact Or.inl (fun post ⟨a, b, c⟩ h => ⟨br_f h1 (br_t (nI_lt (a := 360) h2 hp) h), br_f h1 (br_f (nI_ge (a := 360) h2 hp) h)⟩)
    · have hne : ¬ nI p = 0 := nI_ne0 (by omega) hp
      have e : (360 : Int32) - 360 / nI p * nI p = nI (360 % p) := pk_rem (a := 360) (by decide) (by omega) hp
      have hX : ¬ (360 : Int32) < nI p := nI_nlt (b := p) (a := 360) (by omega) (by decide)
      have hY : nI p ≤ (360 : Int32) := nI_le (b := 360) (by omega) (by decide)
      by_cases h3 : 360 % p = 0
      · have e0 : (360 : Int32) - 360 / nI p * nI p = 0 := by rw [e, h3]; exact nI_0
        exact Or.inr ⟨p, rfl, by omega, by omega, Nat.dvd_of_mod_eq_zero h3, fun post ⟨a, b, c⟩ h => ⟨br_f h1 (br_f hX ⟨hne, br_t e0 h⟩), br_f h1 (br_t hY ⟨hne, br_t e0 h⟩)⟩⟩
      · have e0 : ¬ (360 : Int32) - 360 / nI p * nI p = 0 := by
          rw [e]
          exact nI_ne0 (by omega) (Nat.lt_of_lt_of_le (Nat.mod_lt 360 (by omega)) (by omega))
        exact Or.inl (fun post ⟨a, b, c⟩ h => ⟨br_f h1 (br_f hX ⟨hne, br_f e0 h⟩), br_f h1 (br_t hY ⟨hne, br_f e0 h⟩)⟩)
theorem so_badT (v : Int32) : (∀ (post : Int32 → Prop) (w : SY), post 1 → wpX_badTime post v ∧ wpY_badTime post w v) ∨ (∃ t, v = nI t ∧ t ≤ 1000000000 ∧ ∀ (post : Int32 → Prop) (w : SY), post 0 → wpX_badTime post v ∧ wpY_badTime post w v) := by
  by_cases h1 : v < 0
  · exact Or.inl (fun post ⟨a, b, c⟩ h => ⟨br_t h1 h, br_t h1 h⟩)
  · obtain ⟨t, ht, rfl⟩ := nI_of h1
    by_cases h2 : t ≤ 1000000000
    · have h3 : nI t ≤ (1000000000 : Int32) := nI_le (b := 1000000000) h2 (by decide)
      exact Or.inr ⟨t, rfl, h2, fun post ⟨a, b, c⟩ h => ⟨br_f h1 (br_t h3 h), br_f h1 (br_t h3 h)⟩⟩
    · have h3 : ¬ nI t ≤ (1000000000 : Int32) := nI_ge (a := 1000000000) (by omega) ht
      exact Or.inl (fun post ⟨a, b, c⟩ h => ⟨br_f h1 (br_f h3 h), br_f h1 (br_f h3 h)⟩)
theorem so_gcd_l {post : Int32 → Prop} : ∀ f x y i n : Nat, i + f ≤ 20 → y ≤ x → x * y < 2 ^ f → x < 2 ^ 31 → f < n → post (nI (Nat.gcd x y)) → wX_gcd_7 post n (nI x) (nI y) (nI i) := by
  intro f
  induction f with
  | zero =>
    intro x y i n h1 h2 h3 h4 h5 hp
    obtain ⟨m, rfl⟩ : ∃ m, n = m + 1 := ⟨n - 1, by omega⟩
    have hy : y = 0 := by
      rcases Nat.eq_zero_or_pos y with h | h
      · exact h
      · have : 1 * 1 ≤ x * y := Nat.mul_le_mul (by omega) h
        omega
    subst hy
    rw [Nat.gcd_zero_right] at hp
    exact br_c (fun _ => hp) (fun _ => br_t (nI_le (a := 0) (b := 0) (Nat.le_refl 0) (by decide)) hp)
  | succ f ih =>
    intro x y i n h1 h2 h3 h4 h5 hp
    obtain ⟨m, rfl⟩ : ∃ m, n = m + 1 := ⟨n - 1, by omega⟩
    rcases Nat.eq_zero_or_pos y with h | h
    · subst h
      rw [Nat.gcd_zero_right] at hp
      exact br_c (fun _ => hp) (fun _ => br_t (nI_le (a := 0) (b := 0) (Nat.le_refl 0) (by decide)) hp)
    · have hr : x % y < y := Nat.mod_lt x h
      have hd : y * 1 ≤ y * (x / y) := Nat.mul_le_mul_left y (Nat.div_pos h2 h)
      have hdm := Nat.div_add_mod x y
      have hh : y * (2 * (x % y)) ≤ y * x := Nat.mul_le_mul_left y (by omega)
      have hs : y * (x % y) < 2 ^ f := by
        have e1 : y * (2 * (x % y)) = 2 * (y * (x % y)) := Nat.mul_left_comm _ _ _
        have e2 : y * x = x * y := Nat.mul_comm _ _
        have e3 : 2 ^ (f + 1) = 2 ^ f * 2 := Nat.pow_succ 2 f
        omega
      have hg : Nat.gcd y (x % y) = Nat.gcd x y := by
        rw [Nat.gcd_comm y (x % y), ← Nat.gcd_rec y x, Nat.gcd_comm]
      refine br_f (nI_ge (b := 20) (by omega) (by decide)) (br_f (nI_nle h (by omega)) ⟨nI_ne0 h (by omega), nm_r (pk_rem h4 h (by omega)) (nm_r (nI_1 i) ?_)⟩)
      exact ih y (x % y) (i + 1) m (by omega) (by omega) hs (by omega) (by omega) (by rw [hg]; exact hp)
theorem so_X_gcd {post : Int32 → Prop} {p q : Nat} (hp : p ≤ 360) (hq : q ≤ 360) (h0 : 0 < q) (h : post (nI (Nat.gcd p q))) : wpX_gcd post (nI p) (nI q) := by
  have hm : p * q < 2 ^ 17 := Nat.lt_of_le_of_lt (Nat.mul_le_mul hp hq) (by decide)
  have key : ∀ n, 19 < n → wX_gcd_7 post n (nI p) (nI q) (nI 0) := by
    intro n hn
    by_cases hle : q ≤ p
    · exact so_gcd_l 17 p q 0 n (by omega) hle hm (by omega) (by omega) h
    · obtain ⟨m, rfl⟩ : ∃ m, n = m + 1 := ⟨n - 1, by omega⟩
      have e : p % q = p := Nat.mod_eq_of_lt (by omega)
      have e2 : nI p - nI p / nI q * nI q = nI p := by rw [pk_rem (by omega) h0 (by omega), e]
      refine br_f (nI_ge (b := 20) (by omega) (by decide)) (br_f (nI_nle h0 (by omega)) ⟨nI_ne0 h0 (by omega), nm_r e2 (nm_r (nI_1 0) ?_)⟩)
      refine so_gcd_l 17 q p (0 + 1) m (by omega) (by omega) (by rw [Nat.mul_comm]; exact hm) (by omega) (by omega) ?_
      rw [Nat.gcd_comm]; exact h
  exact ⟨20, key 20 (by omega)⟩
theorem so_fm {o j g : Nat} (ho : o ≤ 360) (hj : j ≤ 360) (hg : 0 < g) (hg2 : g ≤ 360) (hgd : g ∣ 360) (x : Int32) (e : x = (nI o - nI j) - (nI o - nI j) / nI g * nI g) : (0 ≤ x ∧ x = nI ((o + 360 - j) % g)) ∨ (¬ 0 ≤ x ∧ x + nI g = nI ((o + 360 - j) % g)) := by
  by_cases hle : j ≤ o
  · have e1 : (o + 360 - j) % g = (o - j) % g := so_md (a := 0) (b := 1) hgd (by omega)
    have hlt : (o - j) % g < g := Nat.mod_lt _ hg
    rw [pk_sub hle, pk_rem (by omega) hg (by omega)] at e
    refine Or.inl ⟨?_, ?_⟩
    · rw [e]; exact nI_pos' (by omega)
    · rw [e, e1]
  · have hd : (j - o) % g < g := Nat.mod_lt _ hg
    have hr : (o + 360 - j) % g < g := Nat.mod_lt _ hg
    have hs : ((o + 360 - j) % g + (j - o) % g) % g = 0 := by
      rw [← Nat.add_mod, show o + 360 - j + (j - o) = 360 from by omega]
      exact Nat.mod_eq_zero_of_dvd hgd
    have hx : x = nI 0 - nI ((j - o) % g) := by
      apply Int32.toInt_inj.mp
      rw [e, rem_toInt, pk_sub_toInt (by omega) (by omega), pk_sub_toInt (by omega) (by omega), nI_toInt (by omega)]
      have e3 : (o : Int) - (j : Int) = -((j - o : Nat) : Int) := by omega
      rw [e3, Int.neg_tmod, ← Int.ofNat_tmod]
      omega
    generalize (j - o) % g = d at hd hs hx
    generalize (o + 360 - j) % g = r at hr hs ⊢
    by_cases hz : d = 0
    · subst hz
      have h0 : r = 0 := by
        rw [Nat.add_zero, Nat.mod_eq_of_lt hr] at hs
        exact hs
      subst h0
      have hx2 : x = nI 0 := by rw [hx, pk_sub (Nat.le_refl 0)]
      exact Or.inl ⟨by rw [hx2]; exact nI_pos' (by decide), hx2⟩
    · have h0 : r + d = g := by
        by_cases hlt : r + d < g
        · rw [Nat.mod_eq_of_lt hlt] at hs; omega
        · have e4 : (r + d) % g = r + d - g := by
            rw [Nat.mod_eq_sub_mod (by omega), Nat.mod_eq_of_lt (by omega)]
          omega
      refine Or.inr ⟨?_, ?_⟩
      · rw [hx]
        intro z
        rw [Int32.le_iff_toInt_le, pk_sub_toInt (by omega) (by omega), Int32.toInt_zero] at z
        omega
      · have e5 : nI g - nI d = nI r := by rw [pk_sub (by omega)]; exact congrArg nI (by omega)
        rw [hx, ← e5, nI_0]
        grind
section
variable {Q C O : Nat → Nat} {aU aP aC aO aQ : Nat → Int32} {jb : Int32}
theorem so_at (hS : so_St Q C O aU aP aC aO aQ) {i : Nat} (hi : i < 10) : (Q i = 0 → aU (nI i).toNatClampNeg = 0) ∧ (Q i ≠ 0 → ¬ aU (nI i).toNatClampNeg = 0) ∧ aQ (nI i).toNatClampNeg = nI (Q i) ∧ (Q i ≠ 0 → aP (nI i).toNatClampNeg = nI (Q i) ∧ aC (nI i).toNatClampNeg = nI (C i) ∧ aO (nI i).toNatClampNeg = nI (O i)) := by
  rw [nI_clamp (by omega)]
  obtain ⟨h1, h2, h3⟩ := hS i hi
  refine ⟨fun z => by rw [h1, if_pos z], fun z => ?_, h2, h3⟩
  rw [h1, if_neg z]
  decide
theorem so_noJ (hS : so_St Q C O aU aP aC aO aQ) (W : so_wf Q C O) (v : Int32) : (∀ post : Int32 → Prop, post 1 → wpX_noJob post (jb, aU, aP, aC, aO) v ∧ wpY_none post (aQ, aC, aO) v) ∨ (∃ i, v = nI i ∧ i < 10 ∧ Q i ≠ 0 ∧ ∀ post : Int32 → Prop, post 0 → wpX_noJob post (jb, aU, aP, aC, aO) v ∧ wpY_none post (aQ, aC, aO) v) := by
  by_cases h1 : v < 0
  · exact Or.inl (fun post h => ⟨br_t h1 h, br_t h1 h⟩)
  · obtain ⟨i, hi, rfl⟩ := nI_of h1
    by_cases h2 : i < 10
    · have hX : ¬ (10 : Int32) ≤ nI i := nI_ge (b := 10) h2 (by decide)
      have hY : ¬ (9 : Int32) < nI i := nI_nlt (a := 9) (by omega) (by decide)
      have hv : vp_in (nI i) 10 := vp_in_nI h2 (by decide)
      obtain ⟨f1, f2, f3, f4⟩ := so_at hS h2
      by_cases h3 : Q i = 0
      · have hq : aQ (nI i).toNatClampNeg = 0 := by rw [f3, h3]; exact nI_0
        exact Or.inl (fun post h => ⟨br_f h1 (br_f hX ⟨hv, br_t (f1 h3) h⟩), br_f h1 (br_f hY ⟨hv, br_t hq h⟩)⟩)
      · obtain ⟨j1, j2, j3, j4, j5, j6⟩ := W i h2 h3
        have hq : ¬ aQ (nI i).toNatClampNeg = 0 := by rw [f3]; exact nI_ne0 (by omega) (by omega)
        exact Or.inr ⟨i, rfl, h2, h3, fun post h => ⟨br_f h1 (br_f hX ⟨hv, br_f (f2 h3) h⟩), br_f h1 (br_f hY ⟨hv, br_f hq h⟩)⟩⟩
    · have hX : (10 : Int32) ≤ nI i := nI_le (a := 10) (by omega) hi
      have hY : (9 : Int32) < nI i := nI_lt (a := 9) (by omega) hi
      exact Or.inl (fun post h => ⟨br_f h1 (br_t hX h), br_f h1 (br_t hY h)⟩)
end
end
section
/-! the component: roomBeside, roomAt -/
section
variable {Q C O : Nat → Nat} {aU aP aC aO aQ : Nat → Int32} {jb : Int32} {post : Int32 → Prop}
theorem so_X_37 (hS : so_St Q C O aU aP aC aO aQ) (W : so_wf Q C O) {i g b : Nat} (hi : i < 10) (h0 : Q i ≠ 0) (hb : b < g) (hg : g ≤ 360) (h : post (nI (if b < C i then 0 else g - b))) : wX_roomBeside_37 post (nI i) (nI g) (nI b) jb aU aP aC aO := by
  obtain ⟨f1, f2, f3, f4⟩ := so_at hS hi
  obtain ⟨fP, fC, fO⟩ := f4 h0
  obtain ⟨j1, j2, j3, j4, j5, j6⟩ := W i hi h0
  refine ⟨vp_in_nI hi (by decide), ?_⟩
  rw [fC]
  by_cases hc : b < C i
  · rw [if_pos hc] at h
    exact br_f (nI_ge hc (by omega)) h
  · rw [if_neg hc] at h
    refine br_t (nI_le (by omega) (by omega)) ?_
    rw [pk_sub (by omega)]
    exact h
theorem so_X_bes (hS : so_St Q C O aU aP aC aO aQ) (W : so_wf Q C O) {i p o : Nat} (hi : i < 10) (h0 : Q i ≠ 0) (hp : 0 < p) (hp2 : p ≤ 360) (hpd : p ∣ 360) (ho : o ≤ 360) (h : post (nI (so_bs p o (Q i) (C i) (O i)))) : wpX_roomBeside post (jb, aU, aP, aC, aO) (nI i) (nI p) (nI o) := by
  obtain ⟨f1, f2, f3, f4⟩ := so_at hS hi
  obtain ⟨fP, fC, fO⟩ := f4 h0
  obtain ⟨j1, j2, j3, j4, j5, j6⟩ := W i hi h0
  have hv : vp_in (nI i) 10 := vp_in_nI hi (by decide)
  have hg : 0 < Nat.gcd p (Q i) := Nat.gcd_pos_of_pos_left (Q i) hp
  have hg2 : Nat.gcd p (Q i) ≤ p := Nat.gcd_le_left (Q i) hp
  have hgd : Nat.gcd p (Q i) ∣ 360 := Nat.dvd_trans (Nat.gcd_dvd_left p (Q i)) hpd
  unfold wpX_roomBeside
  dsimp only
  rw [fP, fO]
  refine ⟨hv, so_X_gcd hp2 j2 (by omega) ?_⟩
  unfold so_bs at h
  generalize Nat.gcd p (Q i) = g at hg hg2 hgd h ⊢
  refine ⟨hv, nI_ne0 hg (by omega), ?_⟩
  intro x5 e5
  have hb : (o + 360 - O i) % g < g := Nat.mod_lt _ hg
  have hk := so_X_37 (post := post) (jb := jb) hS W hi h0 hb (by omega) h
  rcases so_fm ho (by omega) hg (by omega) hgd x5 e5 with ⟨z, e⟩ | ⟨z, e⟩
  · refine br_t z ?_
    rw [e]; exact hk
  · exact br_f z (nm_r e hk)
theorem so_X_fin {p o r : Nat} (hp : 0 < p) (h1 : r ≤ p) (h2 : ∀ x, x < r → ∀ j, j < 10 → ∀ k, so_rn Q C O j (360 + (o + x + k * p)) = false) (h3 : r < p → so_ok Q C O p o r = false) : so_rm Q C O p o = r := by
  refine so_ld_u _ p r h1 (fun x hx => ?_) h3
  exact (so_ok_iff hp).mpr (fun k _ => so_fr_iff.mpr (fun j hj => h2 x hx j hj k))
theorem so_X_rA_l (hS : so_St Q C O aU aP aC aO aQ) (W : so_wf Q C O) {p o : Nat} (hp : 0 < p) (hp2 : p ≤ 360) (hpd : p ∣ 360) (ho : o ≤ 360) (h : post (nI (so_rm Q C O p o))) : ∀ d i r n : Nat, i + d = 10 → d < n → r ≤ p → (∀ x, x < r → ∀ j, j < i → ∀ k, so_rn Q C O j (360 + (o + x + k * p)) = false) → (r < p → so_ok Q C O p o r = false) → wX_roomAt_5 post (nI p) (nI o) jb aU aP aC aO n (nI r) (nI i) := by
  intro d
  induction d with
  | zero =>
    intro i r n hi hn h1 h2 h3
    obtain ⟨m, rfl⟩ : ∃ m, n = m + 1 := ⟨n - 1, by omega⟩
    have e : i = 10 := by omega
    subst e
    rw [so_X_fin hp h1 h2 h3] at h
    exact br_t (nI_le (a := 10) (b := 10) (Nat.le_refl _) (by decide)) h
  | succ d ih =>
    intro i r n hi hn h1 h2 h3
    obtain ⟨m, rfl⟩ : ∃ m, n = m + 1 := ⟨n - 1, by omega⟩
    have hi' : i < 10 := by omega
    refine br_f (nI_ge (b := 10) hi' (by decide)) ?_
    rcases Nat.eq_zero_or_pos r with hr | hr
    · subst hr
      rw [so_X_fin (r := 0) hp h1 (fun x hx => absurd hx (Nat.not_lt_zero x)) h3] at h
      exact br_t (nI_le (a := 0) (b := 0) (Nat.le_refl _) (by decide)) h
    · refine br_f (nI_nle hr (by omega)) ⟨vp_in_nI hi' (by decide), ?_⟩
      obtain ⟨f1, f2, f3, f4⟩ := so_at hS hi'
      by_cases h0 : Q i = 0
      · refine br_t (f1 h0) (nm_r (nI_1 i) (ih (i + 1) r m (by omega) (by omega) h1 ?_ h3))
        intro x hx j hj k
        by_cases ej : j = i
        · rw [ej]; exact so_rn_f.mpr (fun z => z.1 h0)
        · exact h2 x hx j (by omega) k
      · refine br_f (f2 h0) (so_X_bes hS W hi' h0 hp hp2 hpd ho ?_)
        obtain ⟨j1, j2, j3, j4, j5, j6⟩ := W i hi' h0
        have hb := so_bs_le (o := o) (q := Q i) (c := C i) (j := O i) hp
        have ha : ∀ x, x < so_bs p o (Q i) (C i) (O i) → ∀ k, so_rn Q C O i (360 + (o + x + k * p)) = false := fun x hx k => so_rn_f.mpr (fun z => so_bs_a (by omega) (by omega) hx z.2.2)
        obtain ⟨k0, hk0, hk1⟩ := so_bs_b (o := o) hp hpd (show 0 < Q i by omega) j3 (show O i ≤ 360 by omega) j4
        have hz : so_ok Q C O p o (so_bs p o (Q i) (C i) (O i)) = false := so_ok_f hp k0 hk0 (so_fr_f i hi' (so_rn_iff.mpr ⟨h0, by omega, hk1⟩))
        generalize so_bs p o (Q i) (C i) (O i) = b at hb ha hz ⊢
        by_cases hle : r ≤ b
        · refine br_t (nI_le hle (by omega)) (nm_r (nI_1 i) (ih (i + 1) r m (by omega) (by omega) h1 ?_ h3))
          intro x hx j hj k
          by_cases ej : j = i
          · rw [ej]; exact ha x (by omega) k
          · exact h2 x hx j (by omega) k
        · refine br_f (nI_ge (by omega) (by omega)) (nm_r (nI_1 i) (ih (i + 1) b m (by omega) (by omega) hb ?_ (fun _ => hz)))
          intro x hx j hj k
          by_cases ej : j = i
          · rw [ej]; exact ha x hx k
          · exact h2 x (by omega) j (by omega) k
theorem so_X_rA (hS : so_St Q C O aU aP aC aO aQ) (W : so_wf Q C O) {p o : Nat} (hp : 0 < p) (hp2 : p ≤ 360) (hpd : p ∣ 360) (ho : o ≤ 360) (h : post (nI (so_rm Q C O p o))) : wpX_roomAt post (jb, aU, aP, aC, aO) (nI p) (nI o) := by
  refine ⟨11, ?_⟩
  exact so_X_rA_l hS W hp hp2 hpd ho h 10 0 p 11 rfl (by decide) (Nat.le_refl p) (fun x _ j hj => absurd hj (Nat.not_lt_zero j)) (fun z => absurd z (Nat.lt_irrefl p))
end
end
section
/-! running on both sides; the reference's longest -/
def so_fs (R : Nat → Bool) : Nat → Nat → Int32
  | 0, _ => -6
  | d + 1, i => if R i = true then nI i else so_fs R d (i + 1)
def so_an (Q C O : Nat → Nat) (t : Nat) : Int32 := so_fs (fun i => so_rn Q C O i t) 10 0
theorem so_nm6 {j : Nat} (hj : j < 2 ^ 31) : ¬ nI j = -6 := by
  intro h
  have h2 := congrArg Int32.toInt h
  rw [nI_toInt hj, show (-6 : Int32).toInt = -6 from by decide] at h2
  omega
theorem so_fs_f (R : Nat → Bool) : ∀ d i, (∀ j, i ≤ j → j < i + d → R j = false) → so_fs R d i = -6 := by
  intro d
  induction d with
  | zero => intro i _; rfl
  | succ d ih =>
    intro i h
    unfold so_fs
    rw [if_neg (by rw [h i (Nat.le_refl i) (by omega)]; decide)]
    exact ih (i + 1) (fun j h1 h2 => h j (by omega) (by omega))
theorem so_fs_t (R : Nat → Bool) : ∀ d i, i + d ≤ 10 → (∃ j, i ≤ j ∧ j < i + d ∧ R j = true) → ¬ so_fs R d i = -6 := by
  intro d
  induction d with
  | zero => intro i _ h; obtain ⟨j, h1, h2, _⟩ := h; omega
  | succ d ih =>
    intro i hi h
    unfold so_fs
    by_cases e : R i = true
    · rw [if_pos e]; exact so_nm6 (by omega)
    · rw [if_neg e]
      obtain ⟨j, h1, h2, h3⟩ := h
      have hne : j ≠ i := fun z => e (by rw [← z]; exact h3)
      exact ih (i + 1) (by omega) ⟨j, by omega, by omega, h3⟩
section
variable {Q C O : Nat → Nat} {aU aP aC aO aQ : Nat → Int32} {jb : Int32} {post : Int32 → Prop}
theorem so_an_t {t : Nat} (h : so_fr Q C O t = true) : so_an Q C O t = -6 := so_fs_f _ 10 0 (fun j _ h2 => so_fr_iff.mp h j (by omega))
theorem so_an_f {t : Nat} (h : so_fr Q C O t = false) : ¬ so_an Q C O t = -6 := by
  refine so_fs_t _ 10 0 (by omega) ?_
  apply Classical.byContradiction
  intro z
  have h2 : so_fr Q C O t = true := by
    refine so_fr_iff.mpr (fun i hi => ?_)
    cases e : so_rn Q C O i t with
    | false => rfl
    | true => exact absurd ⟨i, by omega, by omega, e⟩ z
  rw [h] at h2
  cases h2
theorem so_X_run_l (hS : so_St Q C O aU aP aC aO aQ) (W : so_wf Q C O) {t : Nat} (ht : t ≤ 1000000000) : ∀ d i n : Nat, i + d = 10 → d < n → post (so_fs (fun i => so_rn Q C O i t) d i) → wX_running_12 post (nI t) jb aU aP aC aO n (nI i) := by
  intro d
  induction d with
  | zero =>
    intro i n hi hn h
    obtain ⟨m, rfl⟩ : ∃ m, n = m + 1 := ⟨n - 1, by omega⟩
    have e : i = 10 := by omega
    subst e
    exact br_t (nI_le (a := 10) (b := 10) (Nat.le_refl _) (by decide)) h
  | succ d ih =>
    intro i n hi hn h
    obtain ⟨m, rfl⟩ : ∃ m, n = m + 1 := ⟨n - 1, by omega⟩
    have hi' : i < 10 := by omega
    have hv : vp_in (nI i) 10 := vp_in_nI hi' (by decide)
    obtain ⟨f1, f2, f3, f4⟩ := so_at hS hi'
    have hno : so_rn Q C O i t = false → wX_running_12 post (nI t) jb aU aP aC aO m (nI (i + 1)) := by
      intro z
      refine ih (i + 1) m (by omega) (by omega) ?_
      unfold so_fs at h
      rw [if_neg (by rw [z]; decide)] at h
      exact h
    refine br_f (nI_ge (b := 10) hi' (by decide)) ⟨hv, ?_⟩
    by_cases h0 : Q i = 0
    · exact br_t (f1 h0) (nm_r (nI_1 i) (hno (so_rn_f.mpr (fun z => z.1 h0))))
    · obtain ⟨fP, fC, fO⟩ := f4 h0
      obtain ⟨j1, j2, j3, j4, j5, j6⟩ := W i hi' h0
      rw [fP, fC, fO]
      refine br_f (f2 h0) ⟨hv, ?_⟩
      by_cases ho : t < O i
      · exact br_t (nI_lt ho (by omega)) (nm_r (nI_1 i) (hno (so_rn_f.mpr (fun z => by have := z.2.1; omega))))
      · refine br_f (nI_nlt (by omega) (by omega)) ⟨hv, hv, nI_ne0 (by omega) (by omega), hv, ?_⟩
        have hm : (t - O i) % Q i < Q i := Nat.mod_lt _ (by omega)
        rw [pk_sub (by omega), pk_rem (by omega) (by omega) (by omega)]
        by_cases hc : (t - O i) % Q i < C i
        · refine br_f (nI_ge hc (by omega)) ?_
          unfold so_fs at h
          rw [if_pos (so_rn_iff.mpr ⟨h0, by omega, hc⟩)] at h
          exact h
        · exact br_t (nI_le (by omega) (by omega)) (nm_r (nI_1 i) (hno (so_rn_f.mpr (fun z => hc z.2.2))))
theorem so_Y_runs (hS : so_St Q C O aU aP aC aO aQ) (W : so_wf Q C O) {t : Nat} (ht : t ≤ 1000000000) {i : Nat} (hi : i < 10) (h : post (if so_rn Q C O i t = true then 1 else 0)) : wpY_runs post (aQ, aC, aO) (nI i) (nI t) := by
  have hv : vp_in (nI i) 10 := vp_in_nI hi (by decide)
  obtain ⟨f1, f2, f3, f4⟩ := so_at hS hi
  refine ⟨hv, nm_r f3 ?_⟩
  have hno : so_rn Q C O i t = false → post 0 := by
    intro z
    rw [if_neg (by rw [z]; decide)] at h
    exact h
  by_cases h0 : Q i = 0
  · exact br_t (by rw [h0]; exact nI_0) (hno (so_rn_f.mpr (fun z => z.1 h0)))
  · obtain ⟨fP, fC, fO⟩ := f4 h0
    obtain ⟨j1, j2, j3, j4, j5, j6⟩ := W i hi h0
    have hne : ¬ nI (Q i) = 0 := nI_ne0 (by omega) (by omega)
    rw [fC, fO]
    refine br_f hne ⟨hv, ?_⟩
    by_cases ho : O i ≤ t
    · refine br_t (nI_le ho (by omega)) ⟨hv, hne, hv, ?_⟩
      have hm : (t - O i) % Q i < Q i := Nat.mod_lt _ (by omega)
      rw [pk_sub (by omega), pk_rem (by omega) (by omega) (by omega)]
      by_cases hc : (t - O i) % Q i < C i
      · refine br_f (nI_ge hc (by omega)) ?_
        rw [if_pos (so_rn_iff.mpr ⟨h0, ho, hc⟩)] at h
        exact h
      · exact br_t (nI_le (by omega) (by omega)) (hno (so_rn_f.mpr (fun z => hc z.2.2)))
    · exact br_f (nI_ge (by omega) (by omega)) (hno (so_rn_f.mpr (fun z => ho z.2.1)))
theorem so_Y_run_l (hS : so_St Q C O aU aP aC aO aQ) (W : so_wf Q C O) {t : Nat} (ht : t ≤ 1000000000) : ∀ d i n : Nat, i + d = 10 → d < n → post (so_fs (fun i => so_rn Q C O i t) d i) → wY_running_13 post (nI t) aQ aC aO n (nI i) := by
  intro d
  induction d with
  | zero =>
    intro i n hi hn h
    obtain ⟨m, rfl⟩ : ∃ m, n = m + 1 := ⟨n - 1, by omega⟩
    have e : i = 10 := by omega
    subst e
    exact br_t (nI_le (a := 10) (b := 10) (Nat.le_refl _) (by decide)) h
  | succ d ih =>
    intro i n hi hn h
    obtain ⟨m, rfl⟩ : ∃ m, n = m + 1 := ⟨n - 1, by omega⟩
    have hi' : i < 10 := by omega
    refine br_f (nI_ge (b := 10) hi' (by decide)) (so_Y_runs hS W ht hi' ?_)
    unfold so_fs at h
    by_cases hr : so_rn Q C O i t = true
    · rw [if_pos hr] at h ⊢
      exact br_f (by decide) h
    · rw [if_neg hr] at h ⊢
      exact br_t (by decide) (nm_r (nI_1 i) (ih (i + 1) m (by omega) (by omega) h))
theorem so_T0 {t : Nat} (ht : t ≤ 1000000000) (h : post 0) : wpX_badTime post (nI t) ∧ ∀ w : SY, wpY_badTime post w (nI t) := by
  have h1 : ¬ nI t < 0 := nI_pos (by omega)
  have h3 : nI t ≤ (1000000000 : Int32) := nI_le (b := 1000000000) ht (by decide)
  exact ⟨br_f h1 (br_t h3 h), fun ⟨a, b, c⟩ => br_f h1 (br_t h3 h)⟩
theorem so_X_run (hS : so_St Q C O aU aP aC aO aQ) (W : so_wf Q C O) {t : Nat} (ht : t ≤ 1000000000) (h : post (so_an Q C O t)) : wpX_running post (jb, aU, aP, aC, aO) (nI t) := by
  unfold wpX_running
  dsimp only
  refine (so_T0 ht ?_).1
  exact br_t rfl ⟨11, so_X_run_l hS W ht 10 0 11 rfl (by decide) h⟩
theorem so_Y_run (hS : so_St Q C O aU aP aC aO aQ) (W : so_wf Q C O) {t : Nat} (ht : t ≤ 1000000000) (h : post (so_an Q C O t)) : wpY_running post (aQ, aC, aO) (nI t) := by
  unfold wpY_running
  dsimp only
  refine (so_T0 ht ?_).2 _
  exact br_t rfl ⟨11, so_Y_run_l hS W ht 10 0 11 rfl (by decide) h⟩
end
end
section
/-! the reference: longest, count -/
section
variable {Q C O : Nat → Nat} {aU aP aC aO aQ : Nat → Int32} {jb : Int32} {post : Int32 → Prop}
theorem so_Y_30z {J5 : Int32 → Int32 → Prop} {x1 x2 x3 x4 x6 : Int32} (n : Nat) (h : J5 x3 (x4 + 1)) : wY_longest_30 post J5 x1 x2 x3 x4 aQ aC aO (n + 1) 0 x6 := by
  have h9 : wY_longest_79 post J5 x1 x2 x3 x4 0 aQ aC aO := br_t rfl (nm_e h)
  exact br_c (fun _ => h9) (fun _ => br_t rfl h9)
theorem so_Y_30 (hS : so_St Q C O aU aP aC aO aQ) (W : so_wf Q C O) {J5 : Int32 → Int32 → Prop} {x3 : Int32} {p o i : Nat} (hp : 0 < p) (hp2 : p ≤ 360) (ho : o ≤ 360) (hi : i ≤ 360) (ht : so_ok Q C O p o i = true → J5 (x3 + 1) (nI (i + 1))) (hf : so_ok Q C O p o i = false → J5 x3 (nI (i + 1))) : ∀ d k n : Nat, k + d = 361 → d + 2 ≤ n → (∀ l, l < k → l * p < 360 → so_fr Q C O (360 + (o + i + l * p)) = true) → wY_longest_30 post J5 (nI p) (nI o) x3 (nI i) aQ aC aO n 1 (nI (o + i + k * p)) := by
  have e360 : nI o + nI i + 360 = nI (o + i + 360) := by
    rw [nI_add]; exact nI_add (o + i) 360
  have fin : ∀ k : Nat, 360 ≤ k * p → (∀ l, l < k → l * p < 360 → so_fr Q C O (360 + (o + i + l * p)) = true) → wY_longest_79 post J5 (nI p) (nI o) x3 (nI i) 1 aQ aC aO := by
    intro k hk hl
    refine br_f (by decide) (nm_e (nm_r (nI_1 i) (ht ((so_ok_iff hp).mpr (fun l h => hl l ?_ h)))))
    apply Classical.byContradiction
    intro z
    have := Nat.mul_le_mul_right p (show k ≤ l by omega)
    omega
  intro d
  induction d with
  | zero =>
    intro k n hk hn hl
    obtain ⟨m, rfl⟩ : ∃ m, n = m + 1 := ⟨n - 1, by omega⟩
    have hkp : k * 1 ≤ k * p := Nat.mul_le_mul_left k hp
    have hkq : k * p ≤ 361 * 360 := Nat.mul_le_mul (by omega) hp2
    exact pk_le (o + i + 360) (o + i + k * p) (fun _ => fin k (by omega) hl) (fun z => absurd z (by omega)) e360 rfl (by omega) (by omega)
  | succ d ih =>
    intro k n hk hn hl
    obtain ⟨m, rfl⟩ : ∃ m, n = m + 1 := ⟨n - 1, by omega⟩
    have hkq : k * p ≤ 361 * 360 := Nat.mul_le_mul (by omega) hp2
    refine pk_le (o + i + 360) (o + i + k * p) (fun _ => fin k (by omega) hl) (fun z => br_f (by decide) ?_) e360 rfl (by omega) (by omega)
    have e1 : 360 + nI (o + i + k * p) = nI (360 + (o + i + k * p)) := nI_add 360 (o + i + k * p)
    have e2 : nI (o + i + k * p) + nI p = nI (o + i + (k + 1) * p) := by
      rw [nI_add, Nat.succ_mul]; exact congrArg nI (by omega)
    rw [e1]
    refine so_Y_run hS W (by omega) ?_
    cases hfr : so_fr Q C O (360 + (o + i + k * p)) with
    | true =>
      refine br_t (so_an_t hfr) (nm_r e2 (ih (k + 1) m (by omega) (by omega) ?_))
      intro l h1 h2
      by_cases el : l = k
      · rw [el]; exact hfr
      · exact hl l (by omega) h2
    | false =>
      refine br_f (so_an_f hfr) (nm_e ?_)
      obtain ⟨m', rfl⟩ : ∃ m', m = m' + 1 := ⟨m - 1, by omega⟩
      refine so_Y_30z m' ?_
      rw [nI_1]
      exact hf (so_ok_f hp k (by omega) hfr)
theorem so_Y_5 (hS : so_St Q C O aU aP aC aO aQ) (W : so_wf Q C O) {p o : Nat} (hp : 0 < p) (hp2 : p ≤ 360) (ho : o ≤ 360) (h : post (nI (so_rm Q C O p o))) : ∀ d i n : Nat, i + d = p → d < n → wY_longest_5 post (nI p) (nI o) aQ aC aO n (nI (so_ld (so_ok Q C O p o) i)) (nI i) := by
  intro d
  induction d with
  | zero =>
    intro i n hi hn
    obtain ⟨m, rfl⟩ : ∃ m, n = m + 1 := ⟨n - 1, by omega⟩
    have e : i = p := by omega
    subst e
    exact br_t (nI_le (Nat.le_refl _) (by omega)) h
  | succ d ih =>
    intro i n hi hn
    obtain ⟨m, rfl⟩ : ∃ m, n = m + 1 := ⟨n - 1, by omega⟩
    have hle := so_ld_le (so_ok Q C O p o) i
    have hih := ih (i + 1) m (by omega) (by omega)
    refine br_f (nI_ge (by omega) (by omega)) ?_
    refine pk_eq (so_ld (so_ok Q C O p o) i) i (fun z => ?_) (fun z => ?_) rfl rfl (by omega) (by omega)
    · refine nm_r (nI_add o i) ⟨361 + 2, ?_⟩
      have e0 : nI (o + i) = nI (o + i + 0 * p) := congrArg nI (by omega)
      rw [e0]
      refine so_Y_30 hS W hp hp2 ho (by omega) ?_ ?_ 361 0 (361 + 2) rfl (Nat.le_refl _) (fun l h1 => absurd h1 (Nat.not_lt_zero l))
      · intro hk
        have e : so_ld (so_ok Q C O p o) (i + 1) = so_ld (so_ok Q C O p o) i + 1 := by
          show (if so_ld (so_ok Q C O p o) i = i ∧ so_ok Q C O p o i = true then i + 1 else so_ld (so_ok Q C O p o) i) = _
          rw [if_pos ⟨z, hk⟩, z]
        rw [e, ← nI_1] at hih
        exact hih
      · intro hk
        have e : so_ld (so_ok Q C O p o) (i + 1) = so_ld (so_ok Q C O p o) i := by
          show (if so_ld (so_ok Q C O p o) i = i ∧ so_ok Q C O p o i = true then i + 1 else so_ld (so_ok Q C O p o) i) = _
          rw [if_neg (fun y => by rw [hk] at y; cases y.2)]
        rw [e] at hih
        exact hih
    · refine nm_e ⟨0 + 1, so_Y_30z 0 ?_⟩
      have e : so_ld (so_ok Q C O p o) (i + 1) = so_ld (so_ok Q C O p o) i := by
        show (if so_ld (so_ok Q C O p o) i = i ∧ so_ok Q C O p o i = true then i + 1 else so_ld (so_ok Q C O p o) i) = _
        rw [if_neg (fun y => z y.1)]
      rw [e] at hih
      rw [nI_1]
      exact hih
theorem so_Y_lg (hS : so_St Q C O aU aP aC aO aQ) (W : so_wf Q C O) {p o : Nat} (hp : 0 < p) (hp2 : p ≤ 360) (ho : o ≤ 360) (h : post (nI (so_rm Q C O p o))) : wpY_longest post (aQ, aC, aO) (nI p) (nI o) :=
  ⟨p + 1, so_Y_5 hS W hp hp2 ho h p 0 (p + 1) (by omega) (by omega)⟩
def so_us (Q : Nat → Nat) (i : Nat) : Bool := !decide (Q i = 0)
theorem so_Y_cnt_l {aC' aO' : Nat → Int32} (hq : ∀ i, i < 10 → aQ i = nI (Q i) ∧ Q i ≤ 360) (h : post (nI (so_cn (so_us Q) 10))) : ∀ d i n : Nat, i + d = 10 → d < n → wY_count_4 post aQ aC' aO' n (nI (so_cn (so_us Q) i)) (nI i) := by
  intro d
  induction d with
  | zero =>
    intro i n hi hn
    obtain ⟨m, rfl⟩ : ∃ m, n = m + 1 := ⟨n - 1, by omega⟩
    have e : i = 10 := by omega
    subst e
    exact br_t (nI_le (a := 10) (b := 10) (Nat.le_refl _) (by decide)) h
  | succ d ih =>
    intro i n hi hn
    obtain ⟨m, rfl⟩ : ∃ m, n = m + 1 := ⟨n - 1, by omega⟩
    have hi' : i < 10 := by omega
    have hih := ih (i + 1) m (by omega) (by omega)
    have e : so_cn (so_us Q) (i + 1) = so_cn (so_us Q) i + (if so_us Q i = true then 1 else 0) := rfl
    obtain ⟨q1, q2⟩ := hq i hi'
    refine br_f (nI_ge (b := 10) hi' (by decide)) ⟨vp_in_nI hi' (by decide), ?_⟩
    rw [nI_clamp (by omega), q1]
    by_cases h0 : Q i = 0
    · have e2 : so_us Q i = false := by unfold so_us; rw [decide_eq_true h0]; rfl
      rw [e, e2, if_neg (by decide), Nat.add_zero] at hih
      exact br_t (by rw [h0]; exact nI_0) (nm_r (nI_1 i) hih)
    · have e2 : so_us Q i = true := by unfold so_us; rw [decide_eq_false h0]; rfl
      rw [e, e2, if_pos rfl] at hih
      exact br_f (nI_ne0 (by omega) (by omega)) (nm_r (nI_1 _) (nm_r (nI_1 i) hih))
theorem so_Y_cnt {aC' aO' : Nat → Int32} (hq : ∀ i, i < 10 → aQ i = nI (Q i) ∧ Q i ≤ 360) (h : post (nI (so_cn (so_us Q) 10))) : wpY_count post (aQ, aC', aO') :=
  ⟨11, so_Y_cnt_l hq h 10 0 11 rfl (by decide)⟩
theorem so_hq (hS : so_St Q C O aU aP aC aO aQ) (W : so_wf Q C O) : ∀ i, i < 10 → aQ i = nI (Q i) ∧ Q i ≤ 360 := by
  intro i hi
  refine ⟨(hS i hi).2.1, ?_⟩
  by_cases h0 : Q i = 0
  · omega
  · exact (W i hi h0).2.1
end
end
section
/-! free and load on both sides -/
section
variable {Q C O : Nat → Nat} {aU aP aC aO aQ : Nat → Int32} {jb : Int32} {post : Int32 → Prop}
theorem so_mulb {a q c : Nat} (hc : c ≤ q) : a / q * c ≤ a := Nat.le_trans (Nat.mul_le_mul_left (a / q) hc) (Nat.div_mul_le_self a q)
theorem so_X_44 (hS : so_St Q C O aU aP aC aO aQ) (W : so_wf Q C O) {i m x : Nat} (hi : i < 10) (h0 : Q i ≠ 0) (hm : m < 2 ^ 31) (h : post (nI (m / Q i * C i + x))) : wX_ranBefore_44 post (nI i) (nI m) (nI x) jb aU aP aC aO := by
  obtain ⟨f1, f2, f3, f4⟩ := so_at hS hi
  obtain ⟨fP, fC, fO⟩ := f4 h0
  obtain ⟨j1, j2, j3, j4, j5, j6⟩ := W i hi h0
  have hv : vp_in (nI i) 10 := vp_in_nI hi (by decide)
  unfold wX_ranBefore_44
  rw [fP, fC, pk_div hm (by omega) (by omega), pk_mul, nI_add]
  exact ⟨hv, nI_ne0 (by omega) (by omega), hv, h⟩
theorem so_X_ran (hS : so_St Q C O aU aP aC aO aQ) (W : so_wf Q C O) {i t : Nat} (hi : i < 10) (h0 : Q i ≠ 0) (ht : t ≤ 1000000001) (h : post (nI (so_rb (Q i) (C i) (O i) t))) : wpX_ranBefore post (jb, aU, aP, aC, aO) (nI i) (nI t) := by
  obtain ⟨f1, f2, f3, f4⟩ := so_at hS hi
  obtain ⟨fP, fC, fO⟩ := f4 h0
  obtain ⟨j1, j2, j3, j4, j5, j6⟩ := W i hi h0
  have hv : vp_in (nI i) 10 := vp_in_nI hi (by decide)
  unfold wpX_ranBefore
  dsimp only
  rw [fP, fC, fO]
  unfold so_rb at h
  refine ⟨hv, ?_⟩
  by_cases hle : t ≤ O i
  · rw [if_pos hle] at h
    refine nm_e (br_f ?_ h)
    intro z
    rw [Int32.lt_iff_toInt_lt, pk_sub_toInt (by omega) (by omega), Int32.toInt_zero] at z
    omega
  · rw [if_neg hle] at h
    have hm : (t - O i) % Q i < Q i := Nat.mod_lt _ (by omega)
    refine nm_r (pk_sub (by omega)) (br_t (nI_lt (a := 0) (by omega) (by omega)) ⟨hv, nI_ne0 (by omega) (by omega), nm_r (pk_rem (by omega) (by omega) (by omega)) ⟨hv, ?_⟩⟩)
    by_cases hc : (t - O i) % Q i ≤ C i
    · rw [Nat.min_eq_left hc] at h
      exact br_t (nI_le hc (by omega)) (so_X_44 hS W hi h0 (by omega) h)
    · rw [Nat.min_eq_right (by omega)] at h
      exact br_f (nI_ge (by omega) (by omega)) ⟨hv, nm_e (so_X_44 hS W hi h0 (by omega) h)⟩
theorem so_X_free_l (hS : so_St Q C O aU aP aC aO aQ) (W : so_wf Q C O) {a b : Nat} {K : Int32} (ha : a ≤ 1000000000) (hb : b ≤ 1000000000) (h : ∀ x : Int32, x + nI (so_S Q C O (b + 1) 10) = K + nI (so_S Q C O a 10) → post x) : ∀ d i n : Nat, ∀ x : Int32, i + d = 10 → d < n → x + nI (so_S Q C O (b + 1) i) = K + nI (so_S Q C O a i) → wX_free_33 post (nI a) (nI b) jb aU aP aC aO n x (nI i) := by
  intro d
  induction d with
  | zero =>
    intro i n x hi hn hx
    obtain ⟨m, rfl⟩ : ∃ m, n = m + 1 := ⟨n - 1, by omega⟩
    have e : i = 10 := by omega
    subst e
    exact br_t (nI_le (a := 10) (b := 10) (Nat.le_refl _) (by decide)) (h x hx)
  | succ d ih =>
    intro i n x hi hn hx
    obtain ⟨m, rfl⟩ : ∃ m, n = m + 1 := ⟨n - 1, by omega⟩
    have hi' : i < 10 := by omega
    obtain ⟨f1, f2, f3, f4⟩ := so_at hS hi'
    have s1 : so_S Q C O (b + 1) (i + 1) = so_S Q C O (b + 1) i + (if Q i = 0 then 0 else so_rb (Q i) (C i) (O i) (b + 1)) := rfl
    have s2 : so_S Q C O a (i + 1) = so_S Q C O a i + (if Q i = 0 then 0 else so_rb (Q i) (C i) (O i) a) := rfl
    refine br_f (nI_ge (b := 10) hi' (by decide)) ⟨vp_in_nI hi' (by decide), ?_⟩
    by_cases h0 : Q i = 0
    · rw [if_pos h0, Nat.add_zero] at s1 s2
      exact br_t (f1 h0) (nm_r (nI_1 i) (ih (i + 1) m x (by omega) (by omega) (by rw [s1, s2]; exact hx)))
    · rw [if_neg h0] at s1 s2
      refine br_f (f2 h0) ?_
      rw [nI_1 b]
      refine so_X_ran hS W hi' h0 (by omega) (so_X_ran hS W hi' h0 (by omega) (nm_e (nm_r (nI_1 i) (ih (i + 1) m _ (by omega) (by omega) ?_))))
      rw [s1, s2, ← nI_add, ← nI_add]
      generalize nI (so_S Q C O (b + 1) i) = y1 at hx ⊢
      generalize nI (so_S Q C O a i) = y2 at hx ⊢
      generalize nI (so_rb (Q i) (C i) (O i) (b + 1)) = y3
      generalize nI (so_rb (Q i) (C i) (O i) a) = y4
      grind
theorem so_Y_76 {J : Int32 → Int32 → Int32 → Prop} {x1 : Int32} {f c r t : Nat} (ht : t < 720) (hr : r ≤ 360) (h : J (nI (if 360 ≤ t ∧ t < 360 + r then f + 1 else f)) (nI c) (nI (t + 1))) : wY_freeBefore_76 post J x1 (nI f) (nI c) (nI r) (nI t) aQ aC aO := by
  have e : (360 : Int32) + nI r = nI (360 + r) := nI_add 360 r
  unfold wY_freeBefore_76
  rw [e]
  refine pk_lt t 360 (fun z => ?_) (fun z => pk_le (360 + r) t (fun y => ?_) (fun y => ?_) rfl rfl (by omega) (by omega)) rfl rfl (by omega) (by omega)
  · rw [if_neg (by omega)] at h
    exact nm_r (nI_1 t) h
  · rw [if_neg (by omega)] at h
    exact nm_r (nI_1 t) h
  · rw [if_pos (by omega)] at h
    exact nm_r (nI_1 f) (nm_r (nI_1 t) h)
theorem so_Y_65 {J : Int32 → Int32 → Int32 → Prop} {x1 : Int32} {f c r t : Nat} (ht : t < 720) (hr : r ≤ 360) (h : J (nI (if 360 ≤ t ∧ t < 360 + r then f + 1 else f)) (nI (if 360 ≤ t then c + 1 else c)) (nI (t + 1))) : wY_freeBefore_65 post J x1 (nI f) (nI c) (nI r) (nI t) aQ aC aO := by
  refine pk_lt t 360 (fun z => ?_) (fun z => nm_r (nI_1 c) ?_) rfl rfl (by omega) (by omega)
  · rw [if_neg (show ¬ 360 ≤ t by omega)] at h
    exact so_Y_76 ht hr h
  · rw [if_pos (show 360 ≤ t by omega)] at h
    exact so_Y_76 ht hr h
theorem so_Y_29 (hS : so_St Q C O aU aP aC aO aQ) (W : so_wf Q C O) {N r : Nat} (hN : N ≤ 1000000001) (hr : r < 360) (h : post (nI (if N ≤ 360 then so_cn (so_F Q C O N r) 720 else so_cn (so_F Q C O N r) 720 + so_cn (so_G Q C O) 720 * ((N - 360) / 360)))) : ∀ d t n : Nat, t + d = 720 → d < n → wY_freeBefore_29 post (nI N) (nI r) aQ aC aO n (nI (so_cn (so_F Q C O N r) t)) (nI (so_cn (so_G Q C O) t)) (nI t) := by
  intro d
  induction d with
  | zero =>
    intro t n hi hn
    obtain ⟨m, rfl⟩ : ∃ m, n = m + 1 := ⟨n - 1, by omega⟩
    have e : t = 720 := by omega
    subst e
    refine br_t (nI_le (a := 720) (b := 720) (Nat.le_refl _) (by decide)) ?_
    refine pk_le N 360 (fun z => ?_) (fun z => ⟨by decide, ?_⟩) rfl rfl (by omega) (by omega)
    · rw [if_pos z] at h; exact h
    · rw [if_neg (by omega)] at h
      have e1 : nI N - 360 = nI (N - 360) := pk_sub (b := 360) (by omega)
      have e2 : nI (N - 360) / 360 = nI ((N - 360) / 360) := pk_div (d := 360) (by omega) (by decide) (by decide)
      rw [e1, e2, pk_mul, nI_add]
      exact h
  | succ d ih =>
    intro t n hi hn
    obtain ⟨m, rfl⟩ : ∃ m, n = m + 1 := ⟨n - 1, by omega⟩
    have hih := ih (t + 1) m (by omega) (by omega)
    have c1 : so_cn (so_F Q C O N r) (t + 1) = so_cn (so_F Q C O N r) t + (if so_F Q C O N r t = true then 1 else 0) := rfl
    have c2 : so_cn (so_G Q C O) (t + 1) = so_cn (so_G Q C O) t + (if so_G Q C O t = true then 1 else 0) := rfl
    rw [c1, c2] at hih
    refine br_f (nI_ge (b := 720) (by omega) (by decide)) (so_Y_run hS W (by omega) ?_)
    generalize so_cn (so_F Q C O N r) t = f at hih ⊢
    generalize so_cn (so_G Q C O) t = c at hih ⊢
    unfold so_F so_G at hih
    cases hfr : so_fr Q C O t with
    | false =>
      rw [hfr] at hih
      refine br_f (so_an_f hfr) (nm_r (nI_1 t) ?_)
      simp only [Bool.false_and, Bool.false_eq_true, if_false, Nat.add_zero] at hih
      exact hih
    | true =>
      rw [hfr] at hih
      simp only [Bool.true_and, Bool.or_eq_true, Bool.and_eq_true, decide_eq_true_eq] at hih
      refine br_t (so_an_t hfr) ?_
      refine pk_le 360 t (fun z => so_Y_65 (by omega) (by omega) ?_) (fun z => ?_) rfl rfl (by omega) (by omega)
      · rw [if_pos z] at hih ⊢
        by_cases y : t < 360 + r
        · rw [if_pos ⟨z, y⟩]
          rw [if_pos (Or.inr ⟨z, y⟩)] at hih
          exact hih
        · rw [if_neg (fun q => y q.2)]
          rw [if_neg (by omega)] at hih
          exact hih
      · rw [if_neg (show ¬ 360 ≤ t by omega)] at hih
        refine pk_le N t (fun y => so_Y_65 (by omega) (by omega) ?_) (fun y => nm_r (nI_1 f) (so_Y_65 (by omega) (by omega) ?_)) rfl rfl (by omega) (by omega)
        · rw [if_neg (by omega)] at hih
          rw [if_neg (by omega), if_neg (by omega)]
          exact hih
        · rw [if_pos (by omega)] at hih
          rw [if_neg (by omega), if_neg (by omega)]
          exact hih
theorem so_Y_fb (hS : so_St Q C O aU aP aC aO aQ) (W : so_wf Q C O) {N : Nat} (hN : N ≤ 1000000001) (h : post (nI (so_cn (so_fr Q C O) N))) : wpY_freeBefore post (aQ, aC, aO) (nI N) := by
  unfold wpY_freeBefore
  dsimp only
  refine pk_le N 360 (fun z => ⟨721, ?_⟩) (fun z => ⟨by decide, ?_⟩) rfl rfl (by omega) (by omega)
  · refine so_Y_29 hS W (r := 0) hN (by omega) ?_ 720 0 721 rfl (by omega)
    rw [if_pos z, so_cyc0 z]
    exact h
  · have e1 : nI N - 360 = nI (N - 360) := pk_sub (b := 360) (by omega)
    have e2 : nI (N - 360) - nI (N - 360) / 360 * 360 = nI ((N - 360) % 360) := pk_rem (d := 360) (by omega) (by decide) (by decide)
    rw [e1]
    refine nm_r e2 ⟨721, so_Y_29 hS W hN (Nat.mod_lt _ (by omega)) ?_ 720 0 721 rfl (by omega)⟩
    rw [if_neg (by omega), so_cyc W (by omega)]
    exact h
theorem so_X_load_l (hS : so_St Q C O aU aP aC aO aQ) (W : so_wf Q C O) (h : post (nI (so_L Q C 10))) : ∀ d i n : Nat, i + d = 10 → d < n → wX_load_4 post jb aU aP aC aO n (nI (so_L Q C i)) (nI i) := by
  intro d
  induction d with
  | zero =>
    intro i n hi hn
    obtain ⟨m, rfl⟩ : ∃ m, n = m + 1 := ⟨n - 1, by omega⟩
    have e : i = 10 := by omega
    subst e
    exact br_t (nI_le (a := 10) (b := 10) (Nat.le_refl _) (by decide)) h
  | succ d ih =>
    intro i n hi hn
    obtain ⟨m, rfl⟩ : ∃ m, n = m + 1 := ⟨n - 1, by omega⟩
    have hi' : i < 10 := by omega
    have hv : vp_in (nI i) 10 := vp_in_nI hi' (by decide)
    obtain ⟨f1, f2, f3, f4⟩ := so_at hS hi'
    have hih := ih (i + 1) m (by omega) (by omega)
    have s1 : so_L Q C (i + 1) = so_L Q C i + (if Q i = 0 then 0 else 360 / Q i * C i) := rfl
    rw [s1] at hih
    refine br_f (nI_ge (b := 10) hi' (by decide)) ⟨hv, ?_⟩
    by_cases h0 : Q i = 0
    · rw [if_pos h0] at hih
      exact br_t (f1 h0) (nm_r (nI_1 i) hih)
    · rw [if_neg h0] at hih
      obtain ⟨fP, fC, fO⟩ := f4 h0
      obtain ⟨j1, j2, j3, j4, j5, j6⟩ := W i hi' h0
      have e1 : 360 / nI (Q i) = nI (360 / Q i) := pk_div (a := 360) (by decide) (by omega) (by omega)
      rw [fP, fC, e1, pk_mul, nI_add]
      exact br_f (f2 h0) ⟨hv, nI_ne0 (by omega) (by omega), hv, nm_e (nm_r (nI_1 i) hih)⟩
theorem so_Y_load_l (hS : so_St Q C O aU aP aC aO aQ) (W : so_wf Q C O) (h : post (nI (so_cn (fun s => !so_fr Q C O (360 + s)) 360))) : ∀ d s n : Nat, s + d = 360 → d < n → wY_load_6 post aQ aC aO n (nI (so_cn (fun s => !so_fr Q C O (360 + s)) s)) (nI (360 + s)) := by
  intro d
  induction d with
  | zero =>
    intro s n hi hn
    obtain ⟨m, rfl⟩ : ∃ m, n = m + 1 := ⟨n - 1, by omega⟩
    have e : s = 360 := by omega
    subst e
    exact br_t (nI_le (a := 720) (b := 360 + 360) (Nat.le_refl _) (by decide)) h
  | succ d ih =>
    intro s n hi hn
    obtain ⟨m, rfl⟩ : ∃ m, n = m + 1 := ⟨n - 1, by omega⟩
    have hih := ih (s + 1) m (by omega) (by omega)
    have s1 : so_cn (fun s => !so_fr Q C O (360 + s)) (s + 1) = so_cn (fun s => !so_fr Q C O (360 + s)) s + (if (!so_fr Q C O (360 + s)) = true then 1 else 0) := rfl
    rw [s1, ← Nat.add_assoc 360 s 1] at hih
    refine br_f (nI_ge (b := 720) (by omega) (by decide)) (so_Y_run hS W (by omega) ?_)
    generalize so_cn (fun s => !so_fr Q C O (360 + s)) s = c at hih ⊢
    cases hfr : so_fr Q C O (360 + s) with
    | true =>
      rw [hfr] at hih
      simp only [Bool.not_true, Bool.false_eq_true, if_false, Nat.add_zero] at hih
      exact br_t (so_an_t hfr) (nm_r (nI_1 _) hih)
    | false =>
      rw [hfr] at hih
      simp only [Bool.not_false, if_true] at hih
      exact br_f (so_an_f hfr) (nm_r (nI_1 c) (nm_r (nI_1 _) hih))
end
end
section
/-! starts and nextStart on both sides -/
def so_bg (q o t : Nat) : Nat := if t ≤ o then 0 else (t - o - 1) / q + 1
def so_ns (q o t : Nat) : Nat := o + so_bg q o t * q
def so_bq (Q O : Nat → Nat) (i t : Nat) : Prop := Q i ≠ 0 ∧ O i ≤ t ∧ (t - O i) % Q i = 0
theorem so_ns_hi {q o t : Nat} (hq : q ≤ 360) (ho : o < 360) : so_ns q o t < t + 720 := by
  unfold so_ns so_bg
  by_cases h : t ≤ o
  · rw [if_pos h, Nat.zero_mul]; omega
  · rw [if_neg h, Nat.succ_mul]
    have := Nat.div_mul_le_self (t - o - 1) q
    omega
theorem so_ns_lo {q o t : Nat} (hq : 0 < q) : t ≤ so_ns q o t := by
  unfold so_ns so_bg
  by_cases h : t ≤ o
  · rw [if_pos h, Nat.zero_mul]; omega
  · rw [if_neg h, Nat.succ_mul]
    have h1 := Nat.div_add_mod' (t - o - 1) q
    have h2 : (t - o - 1) % q < q := Nat.mod_lt _ hq
    omega
theorem so_ns_min {q o t s : Nat} (hq : 0 < q) (h1 : t ≤ s) (h2 : o ≤ s) (h3 : (s - o) % q = 0) : so_ns q o t ≤ s := by
  unfold so_ns so_bg
  by_cases h : t ≤ o
  · rw [if_pos h, Nat.zero_mul]; omega
  · rw [if_neg h]
    obtain ⟨e, he⟩ := Nat.dvd_of_mod_eq_zero h3
    have h4 : (t - o - 1) / q < e := (Nat.div_lt_iff_lt_mul hq).mpr (by rw [Nat.mul_comm, ← he]; omega)
    have h5 : ((t - o - 1) / q + 1) * q ≤ e * q := Nat.mul_le_mul_right q h4
    rw [Nat.mul_comm e q, ← he] at h5
    omega
theorem so_ns_at {q o t : Nat} : o ≤ so_ns q o t ∧ (so_ns q o t - o) % q = 0 := by
  unfold so_ns
  refine ⟨Nat.le_add_right _ _, ?_⟩
  rw [Nat.add_sub_cancel_left]
  exact Nat.mul_mod_left _ _
section
variable {Q C O : Nat → Nat} {aU aP aC aO aQ : Nat → Int32} {jb : Int32} {post : Int32 → Prop}
theorem so_X_bg (hS : so_St Q C O aU aP aC aO aQ) (W : so_wf Q C O) {i t : Nat} (hi : i < 10) (h0 : Q i ≠ 0) (ht : t ≤ 1000000001) (h : post (nI (so_bg (Q i) (O i) t))) : wpX_begunBefore post (jb, aU, aP, aC, aO) (nI i) (nI t) := by
  obtain ⟨f1, f2, f3, f4⟩ := so_at hS hi
  obtain ⟨fP, fC, fO⟩ := f4 h0
  obtain ⟨j1, j2, j3, j4, j5, j6⟩ := W i hi h0
  have hv : vp_in (nI i) 10 := vp_in_nI hi (by decide)
  unfold wpX_begunBefore
  dsimp only
  rw [fP, fO]
  unfold so_bg at h
  refine ⟨hv, ?_⟩
  by_cases hle : t ≤ O i
  · rw [if_pos hle] at h
    refine nm_e (br_f ?_ h)
    intro z
    rw [Int32.lt_iff_toInt_lt, pk_sub_toInt (by omega) (by omega), Int32.toInt_zero] at z
    omega
  · rw [if_neg hle] at h
    refine nm_r (pk_sub (by omega)) (br_t (nI_lt (a := 0) (by omega) (by omega)) ⟨hv, nI_ne0 (by omega) (by omega), ?_⟩)
    have e1 : nI (t - O i) - 1 = nI (t - O i - 1) := pk_sub (b := 1) (by omega)
    rw [e1, pk_div (by omega) (by omega) (by omega), nI_1]
    exact h
/-- the reference's starts behind its three checks -/
theorem so_Y_st (hS : so_St Q C O aU aP aC aO aQ) (W : so_wf Q C O) {i a b : Nat} (hi : i < 10) (h0 : Q i ≠ 0) (hab : a ≤ b) (hb : b ≤ 1000000000) (h : post (nI (so_bg (Q i) (O i) (b + 1)) - nI (so_bg (Q i) (O i) a))) : vp_in (nI i) 10 ∧ (∀ x4 : Int32, x4 = aQ (nI i).toNatClampNeg → (((nI b < nI a → (post 0)) ∧ (¬ nI b < nI a → (vp_in (nI i) 10 ∧ (((nI b < (aO (nI i).toNatClampNeg) → (post 0)) ∧ (¬ nI b < (aO (nI i).toNatClampNeg) → (((x4 = 0 → (post 0)) ∧ (¬ x4 = 0 → (vp_in (nI i) 10 ∧ (¬ x4 = 0 ∧ (∀ x5 : Int32, x5 = ((nI b - (aO (nI i).toNatClampNeg)) / x4) + 1 → (vp_in (nI i) 10 ∧ ((((aO (nI i).toNatClampNeg) < nI a → (vp_in (nI i) 10 ∧ (¬ x4 = 0 ∧ (∀ x6 : Int32, x6 = (((nI a - 1) - (aO (nI i).toNatClampNeg)) / x4) + 1 → (post (x5 - x6)))))) ∧ (¬ (aO (nI i).toNatClampNeg) < nI a → (post (x5 - 0)))))))))))))))))))) := by
  obtain ⟨f1, f2, f3, f4⟩ := so_at hS hi
  obtain ⟨fP, fC, fO⟩ := f4 h0
  obtain ⟨j1, j2, j3, j4, j5, j6⟩ := W i hi h0
  have hv : vp_in (nI i) 10 := vp_in_nI hi (by decide)
  have hne : ¬ nI (Q i) = 0 := nI_ne0 (by omega) (by omega)
  rw [fO]
  refine ⟨hv, nm_r f3 (br_f (nI_nlt hab (by omega)) ⟨hv, ?_⟩)⟩
  unfold so_bg at h
  by_cases hbo : b < O i
  · rw [if_pos (by omega), if_pos (by omega)] at h
    exact br_t (nI_lt hbo (by omega)) h
  · rw [if_neg (by omega), show b + 1 - O i - 1 = b - O i from by omega] at h
    have e1 : nI (b - O i) / nI (Q i) + 1 = nI ((b - O i) / Q i + 1) := by
      rw [pk_div (by omega) (by omega) (by omega), nI_1]
    rw [pk_sub (by omega)]
    refine br_f (nI_nlt (by omega) (by omega)) (br_f hne ⟨hv, hne, nm_r e1 ⟨hv, ?_⟩⟩)
    by_cases hao : O i < a
    · rw [if_neg (by omega)] at h
      have e2 : nI a - 1 = nI (a - 1) := pk_sub (b := 1) (by omega)
      have e3 : nI (a - 1 - O i) / nI (Q i) + 1 = nI ((a - O i - 1) / Q i + 1) := by
        rw [pk_div (by omega) (by omega) (by omega), nI_1, show a - 1 - O i = a - O i - 1 from by omega]
      rw [e2, pk_sub (by omega)]
      exact br_t (nI_lt hao (by omega)) ⟨hv, hne, nm_r e3 h⟩
    · rw [if_pos (by omega)] at h
      exact br_f (nI_nlt (by omega) (by omega)) h
theorem so_X_ns_l (hS : so_St Q C O aU aP aC aO aQ) (W : so_wf Q C O) {t : Nat} (ht : t ≤ 1000000000) (hA : (∀ j, j < 10 → Q j = 0) → post (-6)) (hB : ∀ b, (∃ j, j < 10 ∧ Q j ≠ 0 ∧ b = so_ns (Q j) (O j) t) → (∀ j, j < 10 → Q j ≠ 0 → b ≤ so_ns (Q j) (O j) t) → post (nI b)) : ∀ d i n : Nat, ∀ x : Int32, i + d = 10 → d < n → (((∀ j, j < i → Q j = 0) ∧ x = -6) ∨ (∃ b, x = nI b ∧ (∃ j, j < i ∧ Q j ≠ 0 ∧ b = so_ns (Q j) (O j) t) ∧ (∀ j, j < i → Q j ≠ 0 → b ≤ so_ns (Q j) (O j) t))) → wX_nextStart_15 post (nI t) jb aU aP aC aO n x (nI i) := by
  intro d
  induction d with
  | zero =>
    intro i n x hi hn hx
    obtain ⟨m, rfl⟩ : ∃ m, n = m + 1 := ⟨n - 1, by omega⟩
    have e : i = 10 := by omega
    subst e
    refine br_t (nI_le (a := 10) (b := 10) (Nat.le_refl _) (by decide)) ?_
    rcases hx with ⟨z, e⟩ | ⟨b, e, h1, h2⟩
    · rw [e]; exact hA z
    · rw [e]; exact hB b h1 h2
  | succ d ih =>
    intro i n x hi hn hx
    obtain ⟨m, rfl⟩ : ∃ m, n = m + 1 := ⟨n - 1, by omega⟩
    have hi' : i < 10 := by omega
    have hv : vp_in (nI i) 10 := vp_in_nI hi' (by decide)
    obtain ⟨f1, f2, f3, f4⟩ := so_at hS hi'
    refine br_f (nI_ge (b := 10) hi' (by decide)) ⟨hv, ?_⟩
    by_cases h0 : Q i = 0
    · refine br_t (f1 h0) (nm_r (nI_1 i) (ih (i + 1) m x (by omega) (by omega) ?_))
      rcases hx with ⟨z, e⟩ | ⟨b, e, ⟨j, q1, q2, q3⟩, h2⟩
      · refine Or.inl ⟨fun j hj => ?_, e⟩
        by_cases ej : j = i
        · rw [ej]; exact h0
        · exact z j (by omega)
      · refine Or.inr ⟨b, e, ⟨j, by omega, q2, q3⟩, fun l hl hq => ?_⟩
        by_cases el : l = i
        · rw [el] at hq; exact absurd h0 hq
        · exact h2 l (by omega) hq
    · obtain ⟨fP, fC, fO⟩ := f4 h0
      obtain ⟨j1, j2, j3, j4, j5, j6⟩ := W i hi' h0
      refine br_f (f2 h0) (so_X_bg hS W hi' h0 (by omega) ⟨hv, hv, ?_⟩)
      have e1 : aO (nI i).toNatClampNeg + nI (so_bg (Q i) (O i) t) * aP (nI i).toNatClampNeg = nI (so_ns (Q i) (O i) t) := by
        rw [fO, fP, pk_mul, nI_add]; rfl
      refine nm_r e1 ?_
      have hhi := so_ns_hi (q := Q i) (o := O i) (t := t) j2 (by omega)
      rcases hx with ⟨z, e⟩ | ⟨b, e, ⟨j, q1, q2, q3⟩, h2⟩
      · subst e
        refine br_t (by decide) (nm_r (nI_1 i) (ih (i + 1) m _ (by omega) (by omega) (Or.inr ⟨_, rfl, ⟨i, by omega, h0, rfl⟩, fun l hl hq => ?_⟩)))
        by_cases el : l = i
        · rw [el]; exact Nat.le_refl _
        · exact absurd (z l (by omega)) hq
      · subst e
        have hb : b < 2 ^ 31 := by
          obtain ⟨k1, k2, k3, k4, k5, k6⟩ := W j (by omega) q2
          have := so_ns_hi (q := Q j) (o := O j) (t := t) k2 (by omega)
          omega
        refine br_f (nI_pos hb) ?_
        by_cases hle : b ≤ so_ns (Q i) (O i) t
        · refine br_t (nI_le hle (by omega)) (nm_r (nI_1 i) (ih (i + 1) m _ (by omega) (by omega) (Or.inr ⟨b, rfl, ⟨j, by omega, q2, q3⟩, fun l hl hq => ?_⟩)))
          by_cases el : l = i
          · rw [el]; exact hle
          · exact h2 l (by omega) hq
        · refine br_f (nI_ge (by omega) hb) (nm_r (nI_1 i) (ih (i + 1) m _ (by omega) (by omega) (Or.inr ⟨_, rfl, ⟨i, by omega, h0, rfl⟩, fun l hl hq => ?_⟩)))
          by_cases el : l = i
          · rw [el]; exact Nat.le_refl _
          · exact Nat.le_trans (by omega) (h2 l (by omega) hq)
theorem so_Y_bg_l (hS : so_St Q C O aU aP aC aO aQ) (W : so_wf Q C O) {t : Nat} (ht : t ≤ 1000001000) : ∀ d i n : Nat, i + d = 10 → d < n → ((∀ j, i ≤ j → j < 10 → ¬ so_bq Q O j t) → post 0) → ((∃ j, i ≤ j ∧ j < 10 ∧ so_bq Q O j t) → post 1) → wY_begins_2 post (nI t) aQ aC aO n (nI i) := by
  intro d
  induction d with
  | zero =>
    intro i n hi hn h1 h2
    obtain ⟨m, rfl⟩ : ∃ m, n = m + 1 := ⟨n - 1, by omega⟩
    have e : i = 10 := by omega
    subst e
    exact br_t (nI_le (a := 10) (b := 10) (Nat.le_refl _) (by decide)) (h1 (fun j y z => by omega))
  | succ d ih =>
    intro i n hi hn h1 h2
    obtain ⟨m, rfl⟩ : ∃ m, n = m + 1 := ⟨n - 1, by omega⟩
    have hi' : i < 10 := by omega
    have hv : vp_in (nI i) 10 := vp_in_nI hi' (by decide)
    obtain ⟨f1, f2, f3, f4⟩ := so_at hS hi'
    have hno : ¬ so_bq Q O i t → wY_begins_2 post (nI t) aQ aC aO m (nI (i + 1)) := by
      intro z
      refine ih (i + 1) m (by omega) (by omega) (fun q => h1 (fun j y1 y2 => ?_)) (fun q => h2 ?_)
      · by_cases ej : j = i
        · rw [ej]; exact z
        · exact q j (by omega) y2
      · obtain ⟨j, y1, y2, y3⟩ := q
        exact ⟨j, by omega, y2, y3⟩
    refine br_f (nI_ge (b := 10) hi' (by decide)) ⟨hv, nm_r f3 ?_⟩
    by_cases h0 : Q i = 0
    · exact br_t (by rw [h0]; exact nI_0) (nm_r (nI_1 i) (hno (fun z => z.1 h0)))
    · obtain ⟨fP, fC, fO⟩ := f4 h0
      obtain ⟨j1, j2, j3, j4, j5, j6⟩ := W i hi' h0
      have hne : ¬ nI (Q i) = 0 := nI_ne0 (by omega) (by omega)
      rw [fO]
      refine br_f hne ⟨hv, ?_⟩
      by_cases ho : t < O i
      · exact br_t (nI_lt ho (by omega)) (nm_r (nI_1 i) (hno (fun z => by have := z.2.1; omega)))
      · refine br_f (nI_nlt (by omega) (by omega)) ⟨hv, hne, ?_⟩
        have hm : (t - O i) % Q i < Q i := Nat.mod_lt _ (by omega)
        rw [pk_sub (by omega), pk_rem (by omega) (by omega) (by omega)]
        by_cases hc : (t - O i) % Q i = 0
        · exact br_t (by rw [hc]; exact nI_0) (h2 ⟨i, Nat.le_refl i, hi', h0, by omega, hc⟩)
        · exact br_f (nI_ne0 (by omega) (by omega)) (nm_r (nI_1 i) (hno (fun z => hc z.2.2)))
theorem so_Y_bgs (hS : so_St Q C O aU aP aC aO aQ) (W : so_wf Q C O) {t : Nat} (ht : t ≤ 1000001000) (h1 : (∀ j, j < 10 → ¬ so_bq Q O j t) → post 0) (h2 : (∃ j, j < 10 ∧ so_bq Q O j t) → post 1) : wpY_begins post (aQ, aC, aO) (nI t) :=
  ⟨11, so_Y_bg_l hS W ht 10 0 11 rfl (by decide) (fun z => h1 (fun j hj => z j (Nat.zero_le j) hj)) (fun z => h2 (by obtain ⟨j, _, y2, y3⟩ := z; exact ⟨j, y2, y3⟩))⟩
/-- found at b -/
theorem so_Y_ns_b (hS : so_St Q C O aU aP aC aO aQ) (W : so_wf Q C O) {a b : Nat} (ha : a ≤ 1000000000) (hb : b < a + 720) (hq : ∃ j, j < 10 ∧ so_bq Q O j b) (hm : ∀ s, a ≤ s → s < b → ∀ j, j < 10 → ¬ so_bq Q O j s) (h : post (nI b)) : ∀ d t n : Nat, t + d = b → d < n → a ≤ t → wY_nextStart_13 post (nI a) aQ aC aO n (nI t) := by
  have e720 : nI a + 720 = nI (a + 720) := nI_add a 720
  intro d
  induction d with
  | zero =>
    intro t n hi hn hat
    obtain ⟨m, rfl⟩ : ∃ m, n = m + 1 := ⟨n - 1, by omega⟩
    have e : t = b := by omega
    subst e
    unfold wY_nextStart_13
    rw [e720]
    exact br_f (nI_ge (by omega) (by omega)) (so_Y_bgs hS W (by omega) (fun z => by obtain ⟨j, y1, y2⟩ := hq; exact absurd y2 (z j y1)) (fun _ => br_f (by decide) h))
  | succ d ih =>
    intro t n hi hn hat
    obtain ⟨m, rfl⟩ : ∃ m, n = m + 1 := ⟨n - 1, by omega⟩
    unfold wY_nextStart_13
    rw [e720]
    refine br_f (nI_ge (by omega) (by omega)) (so_Y_bgs hS W (by omega) (fun _ => br_t rfl (nm_r (nI_1 t) (ih (t + 1) m (by omega) (by omega) (by omega)))) (fun z => ?_))
    obtain ⟨j, y1, y2⟩ := z
    exact absurd y2 (hm t hat (by omega) j y1)
/-- no job -/
theorem so_Y_ns_0 (hS : so_St Q C O aU aP aC aO aQ) (W : so_wf Q C O) {a : Nat} (ha : a ≤ 1000000000) (hm : ∀ j, j < 10 → Q j = 0) (h : post (-6)) : ∀ d t n : Nat, t + d = a + 720 → d < n → wY_nextStart_13 post (nI a) aQ aC aO n (nI t) := by
  have e720 : nI a + 720 = nI (a + 720) := nI_add a 720
  intro d
  induction d with
  | zero =>
    intro t n hi hn
    obtain ⟨m, rfl⟩ : ∃ m, n = m + 1 := ⟨n - 1, by omega⟩
    unfold wY_nextStart_13
    rw [e720]
    exact br_t (nI_le (by omega) (by omega)) h
  | succ d ih =>
    intro t n hi hn
    obtain ⟨m, rfl⟩ : ∃ m, n = m + 1 := ⟨n - 1, by omega⟩
    unfold wY_nextStart_13
    rw [e720]
    refine br_f (nI_ge (by omega) (by omega)) (so_Y_bgs hS W (by omega) (fun _ => br_t rfl (nm_r (nI_1 t) (ih (t + 1) m (by omega) (by omega)))) (fun z => ?_))
    obtain ⟨j, y1, y2⟩ := z
    exact absurd (hm j y1) y2.1
end
end
section
/-! take, the search for an offset, room -/
def so_up (f : Nat → Nat) (k x : Nat) : Nat → Nat := fun j => if j = k then x else f j
theorem so_up_s {f : Nat → Nat} {k x : Nat} : so_up f k x k = x := if_pos rfl
theorem so_up_n {f : Nat → Nat} {k x j : Nat} (h : j ≠ k) : so_up f k x j = f j := if_neg h
theorem so_us_t {Q : Nat → Nat} {i : Nat} (h : Q i ≠ 0) : so_us Q i = true := by unfold so_us; rw [decide_eq_false h]; rfl
theorem so_us_f {Q : Nat → Nat} {i : Nat} (h : Q i = 0) : so_us Q i = false := by unfold so_us; rw [decide_eq_true h]; rfl
theorem so_cn_all {f : Nat → Bool} (n : Nat) (h : ∀ s, s < n → f s = true) : so_cn f n = n := by
  induction n with
  | zero => rfl
  | succ n ih =>
    unfold so_cn
    rw [ih (fun s hs => h s (by omega)), if_pos (h n (by omega))]
theorem so_cn_flip {f g : Nat → Bool} {k : Nat} (hf : f k = false) (hg : g k = true) (he : ∀ s, s ≠ k → g s = f s) : ∀ n, k < n → so_cn g n = so_cn f n + 1 := by
  intro n
  induction n with
  | zero => intro h; omega
  | succ n ih =>
    intro h
    show so_cn g n + (if g n = true then 1 else 0) = so_cn f n + (if f n = true then 1 else 0) + 1
    by_cases e : k = n
    · subst e
      rw [hf, hg, so_cn_congr (f := g) (g := f) k (fun s hs => he s (by omega))]
      rfl
    · rw [ih (by omega), he n (fun z => e z.symm)]
      omega
theorem so_first (P : Nat → Nat) : ∀ n, (∀ j, j < n → P j ≠ 0) ∨ (∃ i, i < n ∧ P i = 0 ∧ ∀ j, j < i → P j ≠ 0) := by
  intro n
  induction n with
  | zero => exact Or.inl (fun j hj => absurd hj (Nat.not_lt_zero j))
  | succ n ih =>
    rcases ih with h | ⟨i, h1, h2, h3⟩
    · by_cases h0 : P n = 0
      · exact Or.inr ⟨n, by omega, h0, h⟩
      · refine Or.inl (fun j hj => ?_)
        by_cases e : j = n
        · rw [e]; exact h0
        · exact h j (by omega)
    · exact Or.inr ⟨i, by omega, h2, h3⟩
theorem so_search (f : Nat → Nat) (c : Nat) : ∀ n, (∀ j, j < n → f j < c) ∨ (∃ i, i < n ∧ c ≤ f i ∧ ∀ j, j < i → f j < c) := by
  intro n
  induction n with
  | zero => exact Or.inl (fun j hj => absurd hj (Nat.not_lt_zero j))
  | succ n ih =>
    rcases ih with h | ⟨i, h1, h2, h3⟩
    · by_cases h0 : c ≤ f n
      · exact Or.inr ⟨n, by omega, h0, h⟩
      · refine Or.inl (fun j hj => ?_)
        by_cases e : j = n
        · rw [e]; omega
        · exact h j (by omega)
    · exact Or.inr ⟨i, by omega, h2, h3⟩
def so_mx (f : Nat → Nat) : Nat → Nat
  | 0 => 0
  | n + 1 => if f n ≤ so_mx f n then so_mx f n else f n
theorem so_mx_le {f : Nat → Nat} {B : Nat} (n : Nat) (h : ∀ i, i < n → f i ≤ B) : so_mx f n ≤ B := by
  induction n with
  | zero => exact Nat.zero_le B
  | succ n ih =>
    have h1 := ih (fun i hi => h i (by omega))
    have h2 := h n (by omega)
    unfold so_mx
    split <;> omega
section
variable {Q C O : Nat → Nat} {aU aP aC aO aQ : Nat → Int32} {jb : Int32}
theorem so_rm_le {p o : Nat} : so_rm Q C O p o ≤ p := so_ld_le _ p
theorem so_X_take {post : Int32 → SX → Prop} (hS : so_St Q C O aU aP aC aO aQ) {p c o : Int32} {k : Nat} (hk : k < 10) (hz : Q k = 0) (hm : ∀ j, j < k → Q j ≠ 0) (h : post (nI k) (jb + 1, upd aU k 1, upd aP k p, upd aC k c, upd aO k o)) : wpX_take post (jb, aU, aP, aC, aO) p c o := by
  have hv : vp_in (nI k) 10 := vp_in_nI hk (by decide)
  have h26 : wX_take_26 post p c o (nI k) jb aU aP aC aO := by
    unfold wX_take_26
    rw [nI_clamp (by omega)]
    exact ⟨hv, nm_r (e' := upd aU k 1) rfl ⟨hv, nm_e ⟨hv, nm_e ⟨hv, nm_e (nm_e h)⟩⟩⟩⟩
  have key : ∀ d i n : Nat, i + d = k → d < n → wX_take_3 post p c o jb aU aP aC aO n (nI i) := by
    intro d
    induction d with
    | zero =>
      intro i n hi hn
      obtain ⟨m, rfl⟩ : ∃ m, n = m + 1 := ⟨n - 1, by omega⟩
      have e : i = k := by omega
      rw [e]
      obtain ⟨f1, f2, f3, f4⟩ := so_at hS hk
      exact br_c (fun _ => h26) (fun _ => ⟨hv, br_t (f1 hz) h26⟩)
    | succ d ih =>
      intro i n hi hn
      obtain ⟨m, rfl⟩ : ∃ m, n = m + 1 := ⟨n - 1, by omega⟩
      have hi' : i < 10 := by omega
      obtain ⟨f1, f2, f3, f4⟩ := so_at hS hi'
      exact br_f (nI_ge (b := 9) (by omega) (by decide)) ⟨vp_in_nI hi' (by decide), br_f (f2 (hm i (by omega))) (nm_r (nI_1 i) (ih (i + 1) m (by omega) (by omega)))⟩
  exact ⟨k + 1, key k 0 (k + 1) (by omega) (by omega)⟩
theorem so_Y_take {post : Int32 → SY → Prop} (hS : so_St Q C O aU aP aC aO aQ) (W : so_wf Q C O) {p c o : Int32} {k : Nat} (hk : k < 10) (hz : Q k = 0) (hm : ∀ j, j < k → Q j ≠ 0) (h : post (nI k) (upd aQ k p, upd aC k c, upd aO k o)) : wpY_take post (aQ, aC, aO) p c o := by
  have hv : vp_in (nI k) 10 := vp_in_nI hk (by decide)
  have key : ∀ d i n : Nat, i + d = k → d < n → wY_take_3 post p c o aQ aC aO n (nI i) := by
    intro d
    induction d with
    | zero =>
      intro i n hi hn
      obtain ⟨m, rfl⟩ : ∃ m, n = m + 1 := ⟨n - 1, by omega⟩
      have e : i = k := by omega
      rw [e]
      obtain ⟨f1, f2, f3, f4⟩ := so_at hS hk
      have hq : aQ (nI k).toNatClampNeg = 0 := by rw [f3, hz]; exact nI_0
      have ek : (nI k).toNatClampNeg = k := nI_clamp (by omega)
      have g : vp_in (nI k) 10 ∧ ∀ a1 : Nat → Int32, a1 = upd aQ (nI k).toNatClampNeg p → (vp_in (nI k) 10 ∧ ∀ a2 : Nat → Int32, a2 = upd aC (nI k).toNatClampNeg c → (vp_in (nI k) 10 ∧ ∀ a3 : Nat → Int32, a3 = upd aO (nI k).toNatClampNeg o → (post (nI k) (a1, a2, a3)))) := by
        rw [ek]
        exact ⟨hv, nm_e ⟨hv, nm_e ⟨hv, nm_e h⟩⟩⟩
      exact br_f (nI_ge (b := 10) hk (by decide)) ⟨hv, br_t hq g⟩
    | succ d ih =>
      intro i n hi hn
      obtain ⟨m, rfl⟩ : ∃ m, n = m + 1 := ⟨n - 1, by omega⟩
      have hi' : i < 10 := by omega
      obtain ⟨f1, f2, f3, f4⟩ := so_at hS hi'
      have h0 := hm i (by omega)
      obtain ⟨j1, j2, j3, j4, j5, j6⟩ := W i hi' h0
      have hq : ¬ aQ (nI i).toNatClampNeg = 0 := by rw [f3]; exact nI_ne0 (by omega) (by omega)
      exact br_f (nI_ge (b := 10) hi' (by decide)) ⟨vp_in_nI hi' (by decide), br_f hq (nm_r (nI_1 i) (ih (i + 1) m (by omega) (by omega)))⟩
  exact ⟨k + 1, key k 0 (k + 1) (by omega) (by omega)⟩
theorem so_X_no {post : Int32 → SX → Prop} (hS : so_St Q C O aU aP aC aO aQ) (W : so_wf Q C O) {p c : Nat} (hp : 0 < p) (hp2 : p ≤ 360) (hpd : p ∣ 360) (hc : c ≤ p) (hn : ∀ s, s < p → so_rm Q C O p s < c) (h : post (-5) (jb, aU, aP, aC, aO)) : ∀ d o n : Nat, o + d = p → d < n → wX_admit_36 post (nI p) (nI c) jb aU aP aC aO n (nI o) := by
  intro d
  induction d with
  | zero =>
    intro o n hi hn
    obtain ⟨m, rfl⟩ : ∃ m, n = m + 1 := ⟨n - 1, by omega⟩
    exact br_t (nI_le (by omega) (by omega)) h
  | succ d ih =>
    intro o n hi hl
    obtain ⟨m, rfl⟩ : ∃ m, n = m + 1 := ⟨n - 1, by omega⟩
    refine br_f (nI_ge (by omega) (by omega)) (so_X_rA hS W hp hp2 hpd (by omega) ?_)
    exact br_t (nI_lt (hn o (by omega)) (by omega)) (nm_r (nI_1 o) (ih (o + 1) m (by omega) (by omega)))
theorem so_X_yes {post : Int32 → SX → Prop} (hS : so_St Q C O aU aP aC aO aQ) (W : so_wf Q C O) {p c z k : Nat} (hp : 0 < p) (hp2 : p ≤ 360) (hpd : p ∣ 360) (hc : c ≤ p) (hz : z < p) (hy : c ≤ so_rm Q C O p z) (hn : ∀ s, s < z → so_rm Q C O p s < c) (hk : k < 10) (hkz : Q k = 0) (hkm : ∀ j, j < k → Q j ≠ 0) (h : post (nI k) (jb + 1, upd aU k 1, upd aP k (nI p), upd aC k (nI c), upd aO k (nI z))) : ∀ d o n : Nat, o + d = z → d < n → wX_admit_36 post (nI p) (nI c) jb aU aP aC aO n (nI o) := by
  intro d
  induction d with
  | zero =>
    intro o n hi hl
    obtain ⟨m, rfl⟩ : ∃ m, n = m + 1 := ⟨n - 1, by omega⟩
    have e : o = z := by omega
    rw [e]
    have hrl := so_rm_le (Q := Q) (C := C) (O := O) (p := p) (o := z)
    refine br_f (nI_ge hz (by omega)) (so_X_rA hS W hp hp2 hpd (by omega) ?_)
    exact br_f (nI_nlt hy (by omega)) (so_X_take hS hk hkz hkm h)
  | succ d ih =>
    intro o n hi hl
    obtain ⟨m, rfl⟩ : ∃ m, n = m + 1 := ⟨n - 1, by omega⟩
    refine br_f (nI_ge (by omega) (by omega)) (so_X_rA hS W hp hp2 hpd (by omega) ?_)
    exact br_t (nI_lt (hn o (by omega)) (by omega)) (nm_r (nI_1 o) (ih (o + 1) m (by omega) (by omega)))
theorem so_Y_no {post : Int32 → SY → Prop} (hS : so_St Q C O aU aP aC aO aQ) (W : so_wf Q C O) {p c : Nat} (hp : 0 < p) (hp2 : p ≤ 360) (hc : c ≤ p) (hn : ∀ s, s < p → so_rm Q C O p s < c) (h : post (-5) (aQ, aC, aO)) : ∀ d o n : Nat, o + d = p → d < n → wY_admit_37 post (nI p) (nI c) aQ aC aO n (nI o) := by
  intro d
  induction d with
  | zero =>
    intro o n hi hn
    obtain ⟨m, rfl⟩ : ∃ m, n = m + 1 := ⟨n - 1, by omega⟩
    exact br_t (nI_le (by omega) (by omega)) h
  | succ d ih =>
    intro o n hi hl
    obtain ⟨m, rfl⟩ : ∃ m, n = m + 1 := ⟨n - 1, by omega⟩
    refine br_f (nI_ge (by omega) (by omega)) (so_Y_lg hS W hp hp2 (by omega) ?_)
    exact br_t (nI_lt (hn o (by omega)) (by omega)) (nm_r (nI_1 o) (ih (o + 1) m (by omega) (by omega)))
theorem so_Y_yes {post : Int32 → SY → Prop} (hS : so_St Q C O aU aP aC aO aQ) (W : so_wf Q C O) {p c z k : Nat} (hp : 0 < p) (hp2 : p ≤ 360) (hc : c ≤ p) (hz : z < p) (hy : c ≤ so_rm Q C O p z) (hn : ∀ s, s < z → so_rm Q C O p s < c) (hk : k < 10) (hkz : Q k = 0) (hkm : ∀ j, j < k → Q j ≠ 0) (h : post (nI k) (upd aQ k (nI p), upd aC k (nI c), upd aO k (nI z))) : ∀ d o n : Nat, o + d = z → d < n → wY_admit_37 post (nI p) (nI c) aQ aC aO n (nI o) := by
  intro d
  induction d with
  | zero =>
    intro o n hi hl
    obtain ⟨m, rfl⟩ : ∃ m, n = m + 1 := ⟨n - 1, by omega⟩
    have e : o = z := by omega
    rw [e]
    have hrl := so_rm_le (Q := Q) (C := C) (O := O) (p := p) (o := z)
    refine br_f (nI_ge hz (by omega)) (so_Y_lg hS W hp hp2 (by omega) ?_)
    exact br_f (nI_nlt hy (by omega)) (so_Y_take hS W hk hkz hkm h)
  | succ d ih =>
    intro o n hi hl
    obtain ⟨m, rfl⟩ : ∃ m, n = m + 1 := ⟨n - 1, by omega⟩
    refine br_f (nI_ge (by omega) (by omega)) (so_Y_lg hS W hp hp2 (by omega) ?_)
    exact br_t (nI_lt (hn o (by omega)) (by omega)) (nm_r (nI_1 o) (ih (o + 1) m (by omega) (by omega)))
theorem so_X_rml {post : Int32 → Prop} (hS : so_St Q C O aU aP aC aO aQ) (W : so_wf Q C O) {p : Nat} (hp : 0 < p) (hp2 : p ≤ 360) (hpd : p ∣ 360) (h : post (nI (so_mx (so_rm Q C O p) p))) : ∀ d o n : Nat, o + d = p → d < n → wX_room_13 post (nI p) jb aU aP aC aO n (nI (so_mx (so_rm Q C O p) o)) (nI o) := by
  intro d
  induction d with
  | zero =>
    intro o n hi hn
    obtain ⟨m, rfl⟩ : ∃ m, n = m + 1 := ⟨n - 1, by omega⟩
    have e : o = p := by omega
    rw [e]
    exact br_t (nI_le (Nat.le_refl p) (by omega)) h
  | succ d ih =>
    intro o n hi hl
    obtain ⟨m, rfl⟩ : ∃ m, n = m + 1 := ⟨n - 1, by omega⟩
    have h1 := so_rm_le (Q := Q) (C := C) (O := O) (p := p) (o := o)
    have h2 := so_mx_le (f := so_rm Q C O p) (B := p) o (fun i _ => so_rm_le)
    have hih := ih (o + 1) m (by omega) (by omega)
    have e : so_mx (so_rm Q C O p) (o + 1) = if so_rm Q C O p o ≤ so_mx (so_rm Q C O p) o then so_mx (so_rm Q C O p) o else so_rm Q C O p o := rfl
    rw [e] at hih
    refine br_f (nI_ge (by omega) (by omega)) (so_X_rA hS W hp hp2 hpd (by omega) ?_)
    by_cases hle : so_rm Q C O p o ≤ so_mx (so_rm Q C O p) o
    · rw [if_pos hle] at hih
      exact br_t (nI_le hle (by omega)) (nm_r (nI_1 o) hih)
    · rw [if_neg hle] at hih
      exact br_f (nI_ge (by omega) (by omega)) (nm_r (nI_1 o) hih)
theorem so_Y_rml {post : Int32 → Prop} (hS : so_St Q C O aU aP aC aO aQ) (W : so_wf Q C O) {p : Nat} (hp : 0 < p) (hp2 : p ≤ 360) (h : post (nI (so_mx (so_rm Q C O p) p))) : ∀ d o n : Nat, o + d = p → d < n → wY_room_14 post (nI p) aQ aC aO n (nI (so_mx (so_rm Q C O p) o)) (nI o) := by
  intro d
  induction d with
  | zero =>
    intro o n hi hn
    obtain ⟨m, rfl⟩ : ∃ m, n = m + 1 := ⟨n - 1, by omega⟩
    have e : o = p := by omega
    rw [e]
    exact br_t (nI_le (Nat.le_refl p) (by omega)) h
  | succ d ih =>
    intro o n hi hl
    obtain ⟨m, rfl⟩ : ∃ m, n = m + 1 := ⟨n - 1, by omega⟩
    have h1 := so_rm_le (Q := Q) (C := C) (O := O) (p := p) (o := o)
    have h2 := so_mx_le (f := so_rm Q C O p) (B := p) o (fun i _ => so_rm_le)
    have hih := ih (o + 1) m (by omega) (by omega)
    have e : so_mx (so_rm Q C O p) (o + 1) = if so_rm Q C O p o ≤ so_mx (so_rm Q C O p) o then so_mx (so_rm Q C O p) o else so_rm Q C O p o := rfl
    rw [e] at hih
    refine br_f (nI_ge (by omega) (by omega)) (so_Y_lg hS W hp hp2 (by omega) ?_)
    by_cases hle : so_rm Q C O p o ≤ so_mx (so_rm Q C O p) o
    · rw [if_pos hle] at hih
      exact br_t (nI_le hle (by omega)) (nm_r (nI_1 o) hih)
    · rw [if_neg hle] at hih
      exact br_f (nI_ge (by omega) (by omega)) (nm_r (nI_1 o) hih)
end
end
section
/-! the relation, and what each method does to it -/
/-- both states against one table of plain numbers: Q the periods (0: none), C the lengths, O the offsets; every job is in range, no two jobs run in one slot -/
def i_Rel (k : Nat) (u : SX) (v : SY) : Prop := ∃ (Q C O : Nat → Nat) (aU aP aC aO aQ : Nat → Int32), u = (nI (so_cn (so_us Q) 10), aU, aP, aC, aO) ∧ v = (aQ, aC, aO) ∧ so_St Q C O aU aP aC aO aQ ∧ so_wf Q C O ∧ so_Dj Q C O
section
variable {Q C O : Nat → Nat} {aU aP aC aO aQ : Nat → Int32}
theorem so_rel_take (hS : so_St Q C O aU aP aC aO aQ) (W : so_wf Q C O) (D : so_Dj Q C O) {p c z k : Nat} (hj : so_job p c z) (hy : c ≤ so_rm Q C O p z) (hk : k < 10) (hz : Q k = 0) (kk : Nat) : i_Rel kk (nI (so_cn (so_us Q) 10) + 1, upd aU k 1, upd aP k (nI p), upd aC k (nI c), upd aO k (nI z)) (upd aQ k (nI p), upd aC k (nI c), upd aO k (nI z)) := by
  obtain ⟨j1, j2, j3, j4, j5, j6⟩ := hj
  have hp0 : p ≠ 0 := by omega
  refine ⟨so_up Q k p, so_up C k c, so_up O k z, upd aU k 1, upd aP k (nI p), upd aC k (nI c), upd aO k (nI z), upd aQ k (nI p), ?_, rfl, ?_, ?_, ?_⟩
  · have e : so_cn (so_us (so_up Q k p)) 10 = so_cn (so_us Q) 10 + 1 := by
      refine so_cn_flip (so_us_f hz) (so_us_t (by rw [so_up_s]; exact hp0)) (fun s hs => ?_) 10 hk
      unfold so_us
      rw [so_up_n hs]
    rw [e, nI_1]
  · intro i hi
    by_cases e : i = k
    · subst e
      rw [so_up_s, so_up_s, so_up_s, pk_us, pk_us, pk_us, pk_us, pk_us, if_neg hp0]
      exact ⟨rfl, rfl, fun _ => ⟨rfl, rfl, rfl⟩⟩
    · rw [so_up_n e, so_up_n e, so_up_n e, pk_un e, pk_un e, pk_un e, pk_un e, pk_un e]
      exact hS i hi
  · intro i hi h0
    by_cases e : i = k
    · subst e
      rw [so_up_s, so_up_s, so_up_s]
      exact ⟨j1, j2, j3, j4, j5, j6⟩
    · rw [so_up_n e] at h0
      rw [so_up_n e, so_up_n e, so_up_n e]
      exact W i hi h0
  · have hn : ∀ i t, i ≠ k → so_rn (so_up Q k p) (so_up C k c) (so_up O k z) i t = so_rn Q C O i t := by
      intro i t e
      unfold so_rn
      rw [so_up_n e, so_up_n e, so_up_n e]
    have hs : ∀ t, so_rn (so_up Q k p) (so_up C k c) (so_up O k z) k t = true → z ≤ t ∧ (t - z) % p < c := by
      intro t h
      have h2 := (so_rn_iff.mp h).2
      rw [so_up_s, so_up_s, so_up_s] at h2
      exact h2
    intro i j t hi hj hne h1 h2
    by_cases ei : i = k
    · have ej : j ≠ k := fun y => hne (ei.trans y.symm)
      rw [ei] at h1
      rw [hn j t ej] at h2
      obtain ⟨y1, y2⟩ := hs t h1
      exact so_new W (by omega) j3 hy hj y1 y2 h2
    · rw [hn i t ei] at h1
      by_cases ej : j = k
      · rw [ej] at h2
        obtain ⟨y1, y2⟩ := hs t h2
        exact so_new W (by omega) j3 hy hi y1 y2 h1
      · rw [hn j t ej] at h2
        exact D i j t hi hj hne h1 h2
theorem so_rem_cn {k : Nat} (hk : k < 10) (hz : Q k ≠ 0) : so_cn (so_us Q) 10 = so_cn (so_us (so_up Q k 0)) 10 + 1 := by
  refine so_cn_flip (so_us_f so_up_s) (so_us_t hz) (fun s hs => ?_) 10 hk
  unfold so_us
  rw [so_up_n hs]
theorem so_rem_q (hS : so_St Q C O aU aP aC aO aQ) (W : so_wf Q C O) {k : Nat} : ∀ i, i < 10 → upd aQ k 0 i = nI (so_up Q k 0 i) ∧ so_up Q k 0 i ≤ 360 := by
  intro i hi
  by_cases e : i = k
  · subst e
    rw [so_up_s, pk_us]
    exact ⟨nI_0.symm, Nat.zero_le _⟩
  · rw [so_up_n e, pk_un e]
    exact so_hq hS W i hi
theorem so_rel_rem (hS : so_St Q C O aU aP aC aO aQ) (W : so_wf Q C O) (D : so_Dj Q C O) {k : Nat} (hk : k < 10) (hz : Q k ≠ 0) (kk : Nat) : i_Rel kk (nI (so_cn (so_us (so_up Q k 0)) 10), upd aU k 0, aP, aC, aO) (upd aQ k 0, aC, aO) := by
  refine ⟨so_up Q k 0, C, O, upd aU k 0, aP, aC, aO, upd aQ k 0, rfl, rfl, ?_, ?_, ?_⟩
  · intro i hi
    by_cases e : i = k
    · subst e
      rw [so_up_s, pk_us, pk_us]
      exact ⟨rfl, nI_0.symm, fun y => absurd rfl y⟩
    · rw [so_up_n e, pk_un e, pk_un e]
      exact hS i hi
  · intro i hi h0
    by_cases e : i = k
    · rw [e, so_up_s] at h0
      exact absurd rfl h0
    · rw [so_up_n e] at h0 ⊢
      exact W i hi h0
  · have hn : ∀ i t, so_rn (so_up Q k 0) C O i t = true → so_rn Q C O i t = true := by
      intro i t h
      obtain ⟨y1, y2, y3⟩ := so_rn_iff.mp h
      by_cases e : i = k
      · rw [e, so_up_s] at y1
        exact absurd rfl y1
      · rw [so_up_n e] at y1 y3
        exact so_rn_iff.mpr ⟨y1, y2, y3⟩
    intro i j t hi hj hne h1 h2
    exact D i j t hi hj hne (hn i t h1) (hn j t h2)
theorem so_len (v : Int32) : v < 1 ∨ (¬ v < 1 ∧ ∃ c, v = nI c ∧ 1 ≤ c ∧ c < 2 ^ 31) := by
  by_cases h : v < 1
  · exact Or.inl h
  · have h0 : ¬ v < 0 := fun z => h (Int32.lt_trans z (by decide))
    obtain ⟨c, hc, rfl⟩ := nI_of h0
    have g : ¬ c < 1 := fun z => h (nI_lt (b := 1) z (by decide))
    exact Or.inr ⟨h, c, rfl, by omega, hc⟩
theorem so_full (Q : Nat → Nat) : so_cn (so_us Q) 10 = 10 ∨ (so_cn (so_us Q) 10 < 10 ∧ ∃ k, k < 10 ∧ Q k = 0 ∧ ∀ j, j < k → Q j ≠ 0) := by
  rcases so_first Q 10 with h | h
  · exact Or.inl (so_cn_all 10 (fun s hs => so_us_t (h s hs)))
  · by_cases e : so_cn (so_us Q) 10 = 10
    · exact Or.inl e
    · have := so_cn_le (so_us Q) 10
      exact Or.inr ⟨by omega, h⟩
theorem so_o_admit (hS : so_St Q C O aU aP aC aO aQ) (W : so_wf Q C O) (D : so_Dj Q C O) (v1 v2 : Int32) : ∃ (r : Int32) (u' : SX) (v' : SY), (∀ k, i_Rel k u' v') ∧ (∀ post : Int32 → SX → Prop, post r u' → wpX_admit post (nI (so_cn (so_us Q) 10), aU, aP, aC, aO) v1 v2) ∧ (∀ post : Int32 → SY → Prop, post r v' → wpY_admit post (aQ, aC, aO) v1 v2) := by
  have R : ∀ k, i_Rel k (nI (so_cn (so_us Q) 10), aU, aP, aC, aO) (aQ, aC, aO) := fun k => ⟨Q, C, O, aU, aP, aC, aO, aQ, rfl, rfl, hS, W, D⟩
  unfold wpX_admit wpY_admit
  dsimp only
  rcases so_badP v1 with hb | ⟨p, rfl, p1, p2, p3, hb⟩
  · refine ⟨-1, _, _, R, fun post h => ?_, fun post h => ?_⟩
    · refine (hb _ (aQ, aC, aO) ?_).1
      exact br_f (by decide) h
    · refine (hb _ (aQ, aC, aO) ?_).2
      exact br_f (by decide) h
  · rcases so_len v2 with hl | ⟨hl, c, rfl, c1, c2⟩
    · refine ⟨-2, _, _, R, fun post h => ?_, fun post h => ?_⟩
      · refine (hb _ (aQ, aC, aO) ?_).1
        exact br_t rfl (br_t hl h)
      · refine (hb _ (aQ, aC, aO) ?_).2
        exact br_t rfl (br_t hl h)
    · by_cases hc : c ≤ p
      · have hc2 : nI c ≤ nI p := nI_le hc (by omega)
        rcases so_full Q with hf | ⟨hf, k, k1, k2, k3⟩
        · refine ⟨-4, _, _, R, fun post h => ?_, fun post h => ?_⟩
          · refine (hb _ (aQ, aC, aO) ?_).1
            refine br_t rfl (br_f hl (br_t hc2 (br_f ?_ h)))
            rw [hf]; decide
          · refine (hb _ (aQ, aC, aO) ?_).2
            refine br_t rfl (br_f hl (br_t hc2 (so_Y_cnt (so_hq hS W) ?_)))
            refine br_t ?_ h
            rw [hf]; decide
        · have hX : nI (so_cn (so_us Q) 10) < 10 := nI_lt (b := 10) hf (by decide)
          have hY : ¬ nI (so_cn (so_us Q) 10) = 10 := by
            intro e
            have e2 := (nI_eq (a := so_cn (so_us Q) 10) (b := 10) (by omega) (by decide)).mp e
            omega
          rcases so_search (so_rm Q C O p) c p with hs | ⟨z, z1, z2, z3⟩
          · refine ⟨-5, _, _, R, fun post h => ?_, fun post h => ?_⟩
            · refine (hb _ (aQ, aC, aO) ?_).1
              exact br_t rfl (br_f hl (br_t hc2 (br_t hX ⟨p + 1, so_X_no hS W (by omega) p2 p3 hc hs h p 0 (p + 1) (by omega) (by omega)⟩)))
            · refine (hb _ (aQ, aC, aO) ?_).2
              refine br_t rfl (br_f hl (br_t hc2 (so_Y_cnt (so_hq hS W) ?_)))
              exact br_f hY ⟨p + 1, so_Y_no hS W (by omega) p2 hc hs h p 0 (p + 1) (by omega) (by omega)⟩
          · refine ⟨nI k, _, _, so_rel_take hS W D ⟨p1, p2, p3, c1, hc, z1⟩ z2 k1 k2, fun post h => ?_, fun post h => ?_⟩
            · refine (hb _ (aQ, aC, aO) ?_).1
              exact br_t rfl (br_f hl (br_t hc2 (br_t hX ⟨z + 1, so_X_yes hS W (by omega) p2 p3 hc z1 z2 z3 k1 k2 k3 h z 0 (z + 1) (by omega) (by omega)⟩)))
            · refine (hb _ (aQ, aC, aO) ?_).2
              refine br_t rfl (br_f hl (br_t hc2 (so_Y_cnt (so_hq hS W) ?_)))
              exact br_f hY ⟨z + 1, so_Y_yes hS W (by omega) p2 hc z1 z2 z3 k1 k2 k3 h z 0 (z + 1) (by omega) (by omega)⟩
      · have hc2 : ¬ nI c ≤ nI p := nI_ge (by omega) c2
        refine ⟨-2, _, _, R, fun post h => ?_, fun post h => ?_⟩
        · refine (hb _ (aQ, aC, aO) ?_).1
          exact br_t rfl (br_f hl (br_f hc2 h))
        · refine (hb _ (aQ, aC, aO) ?_).2
          exact br_t rfl (br_f hl (br_f hc2 h))
theorem so_off (v : Int32) {p : Nat} (hp : p ≤ 360) : v < 0 ∨ (¬ v < 0 ∧ ¬ v < nI p) ∨ (¬ v < 0 ∧ v < nI p ∧ ∃ o, v = nI o ∧ o < p) := by
  by_cases h : v < 0
  · exact Or.inl h
  · obtain ⟨o, ho, rfl⟩ := nI_of h
    by_cases h2 : o < p
    · exact Or.inr (Or.inr ⟨h, nI_lt h2 (by omega), o, rfl, h2⟩)
    · exact Or.inr (Or.inl ⟨h, nI_nlt (by omega) ho⟩)
theorem so_o_admitAt (hS : so_St Q C O aU aP aC aO aQ) (W : so_wf Q C O) (D : so_Dj Q C O) (v1 v2 v3 : Int32) : ∃ (r : Int32) (u' : SX) (v' : SY), (∀ k, i_Rel k u' v') ∧ (∀ post : Int32 → SX → Prop, post r u' → wpX_admitAt post (nI (so_cn (so_us Q) 10), aU, aP, aC, aO) v1 v2 v3) ∧ (∀ post : Int32 → SY → Prop, post r v' → wpY_admitAt post (aQ, aC, aO) v1 v2 v3) := by
  have R : ∀ k, i_Rel k (nI (so_cn (so_us Q) 10), aU, aP, aC, aO) (aQ, aC, aO) := fun k => ⟨Q, C, O, aU, aP, aC, aO, aQ, rfl, rfl, hS, W, D⟩
  unfold wpX_admitAt wpY_admitAt
  dsimp only
  rcases so_badP v1 with hb | ⟨p, rfl, p1, p2, p3, hb⟩
  · refine ⟨-1, _, _, R, fun post h => ?_, fun post h => ?_⟩
    · refine (hb _ (aQ, aC, aO) ?_).1
      exact br_f (by decide) h
    · refine (hb _ (aQ, aC, aO) ?_).2
      exact br_f (by decide) h
  · rcases so_len v2 with hl | ⟨hl, c, rfl, c1, c2⟩
    · refine ⟨-2, _, _, R, fun post h => ?_, fun post h => ?_⟩
      · refine (hb _ (aQ, aC, aO) ?_).1
        exact br_t rfl (br_t hl h)
      · refine (hb _ (aQ, aC, aO) ?_).2
        exact br_t rfl (br_t hl h)
    · by_cases hc : c ≤ p
      · have hc2 : nI c ≤ nI p := nI_le hc (by omega)
        rcases so_off v3 p2 with ho | ⟨ho, ho2⟩ | ⟨ho, ho2, z, rfl, z1⟩
        · refine ⟨-3, _, _, R, fun post h => ?_, fun post h => ?_⟩
          · refine (hb _ (aQ, aC, aO) ?_).1
            exact br_t rfl (br_f hl (br_t hc2 (br_t ho h)))
          · refine (hb _ (aQ, aC, aO) ?_).2
            exact br_t rfl (br_f hl (br_t hc2 (br_t ho h)))
        · refine ⟨-3, _, _, R, fun post h => ?_, fun post h => ?_⟩
          · refine (hb _ (aQ, aC, aO) ?_).1
            exact br_t rfl (br_f hl (br_t hc2 (br_f ho (br_f ho2 h))))
          · refine (hb _ (aQ, aC, aO) ?_).2
            exact br_t rfl (br_f hl (br_t hc2 (br_f ho (br_f ho2 h))))
        · rcases so_full Q with hf | ⟨hf, k, k1, k2, k3⟩
          · refine ⟨-4, _, _, R, fun post h => ?_, fun post h => ?_⟩
            · refine (hb _ (aQ, aC, aO) ?_).1
              refine br_t rfl (br_f hl (br_t hc2 (br_f ho (br_t ho2 (br_f ?_ h)))))
              rw [hf]; decide
            · refine (hb _ (aQ, aC, aO) ?_).2
              refine br_t rfl (br_f hl (br_t hc2 (br_f ho (br_t ho2 (so_Y_cnt (so_hq hS W) ?_)))))
              refine br_t ?_ h
              rw [hf]; decide
          · have hX : nI (so_cn (so_us Q) 10) < 10 := nI_lt (b := 10) hf (by decide)
            have hY : ¬ nI (so_cn (so_us Q) 10) = 10 := by
              intro e
              have e2 := (nI_eq (a := so_cn (so_us Q) 10) (b := 10) (by omega) (by decide)).mp e
              omega
            have hrl := so_rm_le (Q := Q) (C := C) (O := O) (p := p) (o := z)
            by_cases hy : c ≤ so_rm Q C O p z
            · have hy2 : nI c ≤ nI (so_rm Q C O p z) := nI_le hy (by omega)
              refine ⟨nI k, _, _, so_rel_take hS W D ⟨p1, p2, p3, c1, hc, z1⟩ hy k1 k2, fun post h => ?_, fun post h => ?_⟩
              · refine (hb _ (aQ, aC, aO) ?_).1
                refine br_t rfl (br_f hl (br_t hc2 (br_f ho (br_t ho2 (br_t hX (so_X_rA hS W (by omega) p2 p3 (by omega) ?_))))))
                exact br_t hy2 (so_X_take hS k1 k2 k3 h)
              · refine (hb _ (aQ, aC, aO) ?_).2
                refine br_t rfl (br_f hl (br_t hc2 (br_f ho (br_t ho2 (so_Y_cnt (so_hq hS W) ?_)))))
                refine br_f hY (so_Y_lg hS W (by omega) p2 (by omega) ?_)
                exact br_t hy2 (so_Y_take hS W k1 k2 k3 h)
            · have hy2 : ¬ nI c ≤ nI (so_rm Q C O p z) := nI_ge (by omega) c2
              refine ⟨-5, _, _, R, fun post h => ?_, fun post h => ?_⟩
              · refine (hb _ (aQ, aC, aO) ?_).1
                refine br_t rfl (br_f hl (br_t hc2 (br_f ho (br_t ho2 (br_t hX (so_X_rA hS W (by omega) p2 p3 (by omega) ?_))))))
                exact br_f hy2 h
              · refine (hb _ (aQ, aC, aO) ?_).2
                refine br_t rfl (br_f hl (br_t hc2 (br_f ho (br_t ho2 (so_Y_cnt (so_hq hS W) ?_)))))
                refine br_f hY (so_Y_lg hS W (by omega) p2 (by omega) ?_)
                exact br_f hy2 h
      · have hc2 : ¬ nI c ≤ nI p := nI_ge (by omega) c2
        refine ⟨-2, _, _, R, fun post h => ?_, fun post h => ?_⟩
        · refine (hb _ (aQ, aC, aO) ?_).1
          exact br_t rfl (br_f hl (br_f hc2 h))
        · refine (hb _ (aQ, aC, aO) ?_).2
          exact br_t rfl (br_f hl (br_f hc2 h))
theorem so_o_remove (hS : so_St Q C O aU aP aC aO aQ) (W : so_wf Q C O) (D : so_Dj Q C O) (v1 : Int32) : ∃ (r : Int32) (u' : SX) (v' : SY), (∀ k, i_Rel k u' v') ∧ (∀ post : Int32 → SX → Prop, post r u' → wpX_remove post (nI (so_cn (so_us Q) 10), aU, aP, aC, aO) v1) ∧ (∀ post : Int32 → SY → Prop, post r v' → wpY_remove post (aQ, aC, aO) v1) := by
  have R : ∀ k, i_Rel k (nI (so_cn (so_us Q) 10), aU, aP, aC, aO) (aQ, aC, aO) := fun k => ⟨Q, C, O, aU, aP, aC, aO, aQ, rfl, rfl, hS, W, D⟩
  unfold wpX_remove wpY_remove
  dsimp only
  rcases so_noJ (jb := nI (so_cn (so_us Q) 10)) hS W v1 with hb | ⟨i, rfl, hi, h0, hb⟩
  · refine ⟨-6, _, _, R, fun post h => ?_, fun post h => ?_⟩
    · refine (hb _ ?_).1
      exact br_f (by decide) h
    · refine (hb _ ?_).2
      exact br_f (by decide) h
  · have hv : vp_in (nI i) 10 := vp_in_nI hi (by decide)
    refine ⟨nI (so_cn (so_us (so_up Q i 0)) 10), _, _, so_rel_rem hS W D hi h0, fun post h => ?_, fun post h => ?_⟩
    · refine (hb _ ?_).1
      rw [nI_clamp (by omega)]
      have e : nI (so_cn (so_us Q) 10) - 1 = nI (so_cn (so_us (so_up Q i 0)) 10) := by
        rw [so_rem_cn hi h0]; exact nI_pred _
      exact br_t rfl ⟨hv, nm_r (e' := upd aU i 0) rfl (nm_r e h)⟩
    · refine (hb _ ?_).2
      rw [nI_clamp (by omega)]
      exact br_t rfl ⟨hv, nm_e (so_Y_cnt (so_rem_q hS W) h)⟩
end
end
section
/-! the methods that only read: one answer for both sides -/
section
variable {Q C O : Nat → Nat} {aU aP aC aO aQ : Nat → Int32} {jb : Int32}
theorem so_o_offset (hS : so_St Q C O aU aP aC aO aQ) (W : so_wf Q C O) (v1 : Int32) : ∃ r : Int32, (∀ post : Int32 → Prop, post r → wpX_offset post (jb, aU, aP, aC, aO) v1) ∧ (∀ post : Int32 → Prop, post r → wpY_offset post (aQ, aC, aO) v1) := by
  unfold wpX_offset wpY_offset
  dsimp only
  rcases so_noJ (jb := jb) hS W v1 with hb | ⟨i, rfl, hi, h0, hb⟩
  · refine ⟨-6, fun post h => ?_, fun post h => ?_⟩
    · refine (hb _ ?_).1
      exact br_f (by decide) h
    · refine (hb _ ?_).2
      exact br_f (by decide) h
  · have hv : vp_in (nI i) 10 := vp_in_nI hi (by decide)
    refine ⟨aO (nI i).toNatClampNeg, fun post h => ?_, fun post h => ?_⟩
    · refine (hb _ ?_).1
      exact br_t rfl ⟨hv, h⟩
    · refine (hb _ ?_).2
      exact br_t rfl ⟨hv, h⟩
theorem so_o_running (hS : so_St Q C O aU aP aC aO aQ) (W : so_wf Q C O) (v1 : Int32) : ∃ r : Int32, (∀ post : Int32 → Prop, post r → wpX_running post (jb, aU, aP, aC, aO) v1) ∧ (∀ post : Int32 → Prop, post r → wpY_running post (aQ, aC, aO) v1) := by
  rcases so_badT v1 with hb | ⟨t, rfl, ht, hb⟩
  · unfold wpX_running wpY_running
    dsimp only
    refine ⟨-7, fun post h => ?_, fun post h => ?_⟩
    · refine (hb _ (aQ, aC, aO) ?_).1
      exact br_f (by decide) h
    · refine (hb _ (aQ, aC, aO) ?_).2
      exact br_f (by decide) h
  · exact ⟨so_an Q C O t, fun post h => so_X_run hS W ht h, fun post h => so_Y_run hS W ht h⟩
theorem so_o_free (hS : so_St Q C O aU aP aC aO aQ) (W : so_wf Q C O) (D : so_Dj Q C O) (v1 v2 : Int32) : ∃ r : Int32, (∀ post : Int32 → Prop, post r → wpX_free post (jb, aU, aP, aC, aO) v1 v2) ∧ (∀ post : Int32 → Prop, post r → wpY_free post (aQ, aC, aO) v1 v2) := by
  unfold wpX_free wpY_free
  dsimp only
  rcases so_badT v1 with hb | ⟨a, rfl, ha, hb⟩
  · refine ⟨-7, fun post h => ?_, fun post h => ?_⟩
    · refine (hb _ (aQ, aC, aO) ?_).1
      exact br_f (by decide) h
    · refine (hb _ (aQ, aC, aO) ?_).2
      exact br_f (by decide) h
  · rcases so_badT v2 with hc | ⟨b, rfl, hbb, hc⟩
    · refine ⟨-7, fun post h => ?_, fun post h => ?_⟩
      · refine (hb _ (aQ, aC, aO) ?_).1
        refine br_t rfl (hc _ (aQ, aC, aO) ?_).1
        exact br_f (by decide) h
      · refine (hb _ (aQ, aC, aO) ?_).2
        refine br_t rfl (hc _ (aQ, aC, aO) ?_).2
        exact br_f (by decide) h
    · by_cases hle : a ≤ b
      · have hl2 : nI a ≤ nI b := nI_le hle (by omega)
        refine ⟨nI (so_cn (so_fr Q C O) (b + 1)) - nI (so_cn (so_fr Q C O) a), fun post h => ?_, fun post h => ?_⟩
        · refine (hb _ (aQ, aC, aO) ?_).1
          refine br_t rfl (hc _ (aQ, aC, aO) ?_).1
          refine br_t rfl (br_t hl2 (nm_e ⟨11, so_X_free_l hS W (K := nI b - nI a + 1) ha hbb ?_ 10 0 11 _ rfl (by decide) rfl⟩))
          intro x hx
          have e1 : nI (so_cn (so_fr Q C O) (b + 1)) + nI (so_S Q C O (b + 1) 10) = nI b + 1 := by
            rw [nI_add, so_free W D, nI_1]
          have e2 : nI (so_cn (so_fr Q C O) a) + nI (so_S Q C O a 10) = nI a := by
            rw [nI_add, so_free W D]
          have e : x = nI (so_cn (so_fr Q C O) (b + 1)) - nI (so_cn (so_fr Q C O) a) := by
            generalize nI (so_cn (so_fr Q C O) (b + 1)) = y1 at e1 ⊢
            generalize nI (so_cn (so_fr Q C O) a) = y2 at e2 ⊢
            generalize nI (so_S Q C O (b + 1) 10) = y3 at e1 hx
            generalize nI (so_S Q C O a 10) = y4 at e2 hx
            generalize nI b = y5 at e1 hx
            generalize nI a = y6 at e2 hx
            grind
          rw [e]; exact h
        · refine (hb _ (aQ, aC, aO) ?_).2
          refine br_t rfl (hc _ (aQ, aC, aO) ?_).2
          refine br_t rfl (br_t hl2 ?_)
          rw [nI_1 b]
          exact so_Y_fb hS W (by omega) (so_Y_fb hS W (by omega) h)
      · have hl2 : ¬ nI a ≤ nI b := nI_ge (by omega) (by omega)
        refine ⟨0, fun post h => ?_, fun post h => ?_⟩
        · refine (hb _ (aQ, aC, aO) ?_).1
          refine br_t rfl (hc _ (aQ, aC, aO) ?_).1
          exact br_t rfl (br_f hl2 h)
        · refine (hb _ (aQ, aC, aO) ?_).2
          refine br_t rfl (hc _ (aQ, aC, aO) ?_).2
          exact br_t rfl (br_f hl2 h)
theorem so_o_starts (hS : so_St Q C O aU aP aC aO aQ) (W : so_wf Q C O) (v1 v2 v3 : Int32) : ∃ r : Int32, (∀ post : Int32 → Prop, post r → wpX_starts post (jb, aU, aP, aC, aO) v1 v2 v3) ∧ (∀ post : Int32 → Prop, post r → wpY_starts post (aQ, aC, aO) v1 v2 v3) := by
  unfold wpX_starts wpY_starts
  dsimp only
  rcases so_noJ (jb := jb) hS W v1 with hn | ⟨i, rfl, hi, h0, hn⟩
  · refine ⟨-6, fun post h => ?_, fun post h => ?_⟩
    · refine (hn _ ?_).1
      exact br_f (by decide) h
    · refine (hn _ ?_).2
      exact br_f (by decide) h
  · rcases so_badT v2 with hb | ⟨a, rfl, ha, hb⟩
    · refine ⟨-7, fun post h => ?_, fun post h => ?_⟩
      · refine (hn _ ?_).1
        refine br_t rfl (hb _ (aQ, aC, aO) ?_).1
        exact br_f (by decide) h
      · refine (hn _ ?_).2
        refine br_t rfl (hb _ (aQ, aC, aO) ?_).2
        exact br_f (by decide) h
    · rcases so_badT v3 with hc | ⟨b, rfl, hbb, hc⟩
      · refine ⟨-7, fun post h => ?_, fun post h => ?_⟩
        · refine (hn _ ?_).1
          refine br_t rfl (hb _ (aQ, aC, aO) ?_).1
          refine br_t rfl (hc _ (aQ, aC, aO) ?_).1
          exact br_f (by decide) h
        · refine (hn _ ?_).2
          refine br_t rfl (hb _ (aQ, aC, aO) ?_).2
          refine br_t rfl (hc _ (aQ, aC, aO) ?_).2
          exact br_f (by decide) h
      · by_cases hle : a ≤ b
        · have hl2 : nI a ≤ nI b := nI_le hle (by omega)
          refine ⟨nI (so_bg (Q i) (O i) (b + 1)) - nI (so_bg (Q i) (O i) a), fun post h => ?_, fun post h => ?_⟩
          · refine (hn _ ?_).1
            refine br_t rfl (hb _ (aQ, aC, aO) ?_).1
            refine br_t rfl (hc _ (aQ, aC, aO) ?_).1
            refine br_t rfl (br_t hl2 ?_)
            rw [nI_1 b]
            exact so_X_bg hS W hi h0 (by omega) (so_X_bg hS W hi h0 (by omega) h)
          · refine (hn _ ?_).2
            refine br_t rfl (hb _ (aQ, aC, aO) ?_).2
            refine br_t rfl (hc _ (aQ, aC, aO) ?_).2
            exact br_t rfl (so_Y_st hS W hi h0 hle hbb h)
        · have hl2 : ¬ nI a ≤ nI b := nI_ge (by omega) (by omega)
          have hl3 : nI b < nI a := nI_lt (by omega) (by omega)
          have hv : vp_in (nI i) 10 := vp_in_nI hi (by decide)
          refine ⟨0, fun post h => ?_, fun post h => ?_⟩
          · refine (hn _ ?_).1
            refine br_t rfl (hb _ (aQ, aC, aO) ?_).1
            refine br_t rfl (hc _ (aQ, aC, aO) ?_).1
            exact br_t rfl (br_f hl2 h)
          · refine (hn _ ?_).2
            refine br_t rfl (hb _ (aQ, aC, aO) ?_).2
            refine br_t rfl (hc _ (aQ, aC, aO) ?_).2
            exact br_t rfl ⟨hv, nm_e (br_t hl3 h)⟩
theorem so_o_nextStart (hS : so_St Q C O aU aP aC aO aQ) (W : so_wf Q C O) (v1 : Int32) : ∃ r : Int32, (∀ post : Int32 → Prop, post r → wpX_nextStart post (jb, aU, aP, aC, aO) v1) ∧ (∀ post : Int32 → Prop, post r → wpY_nextStart post (aQ, aC, aO) v1) := by
  unfold wpX_nextStart wpY_nextStart
  dsimp only
  rcases so_badT v1 with hb | ⟨t, rfl, ht, hb⟩
  · refine ⟨-7, fun post h => ?_, fun post h => ?_⟩
    · refine (hb _ (aQ, aC, aO) ?_).1
      exact br_f (by decide) h
    · refine (hb _ (aQ, aC, aO) ?_).2
      exact br_f (by decide) h
  · by_cases hz : ∀ j, j < 10 → Q j = 0
    · refine ⟨-6, fun post h => ?_, fun post h => ?_⟩
      · refine (hb _ (aQ, aC, aO) ?_).1
        refine br_t rfl ⟨11, so_X_ns_l hS W ht (fun _ => h) (fun b hj _ => ?_) 10 0 11 (-6) rfl (by decide) (Or.inl ⟨fun j hj => absurd hj (Nat.not_lt_zero j), rfl⟩)⟩
        obtain ⟨j, y1, y2, y3⟩ := hj
        exact absurd (hz j y1) y2
      · refine (hb _ (aQ, aC, aO) ?_).2
        exact br_t rfl ⟨721, so_Y_ns_0 hS W ht hz h 720 t 721 rfl (by decide)⟩
    · have hm : ∃ b, (∃ j, j < 10 ∧ Q j ≠ 0 ∧ b = so_ns (Q j) (O j) t) ∧ (∀ j, j < 10 → Q j ≠ 0 → b ≤ so_ns (Q j) (O j) t) := by
        have h1 : ∀ n, (∀ j, j < n → Q j = 0) ∨ ∃ b, (∃ j, j < n ∧ Q j ≠ 0 ∧ b = so_ns (Q j) (O j) t) ∧ (∀ j, j < n → Q j ≠ 0 → b ≤ so_ns (Q j) (O j) t) := by
          intro n
          induction n with
          | zero => exact Or.inl (fun j hj => absurd hj (Nat.not_lt_zero j))
          | succ n ih =>
            by_cases h0 : Q n = 0
            · rcases ih with h | ⟨b, ⟨j, y1, y2, y3⟩, h2⟩
              · refine Or.inl (fun j hj => ?_)
                by_cases e : j = n
                · rw [e]; exact h0
                · exact h j (by omega)
              · refine Or.inr ⟨b, ⟨j, by omega, y2, y3⟩, fun l hl hq => ?_⟩
                by_cases e : l = n
                · rw [e] at hq; exact absurd h0 hq
                · exact h2 l (by omega) hq
            · rcases ih with h | ⟨b, ⟨j, y1, y2, y3⟩, h2⟩
              · refine Or.inr ⟨_, ⟨n, by omega, h0, rfl⟩, fun l hl hq => ?_⟩
                by_cases e : l = n
                · rw [e]; exact Nat.le_refl _
                · exact absurd (h l (by omega)) hq
              · by_cases hle : b ≤ so_ns (Q n) (O n) t
                · refine Or.inr ⟨b, ⟨j, by omega, y2, y3⟩, fun l hl hq => ?_⟩
                  by_cases e : l = n
                  · rw [e]; exact hle
                  · exact h2 l (by omega) hq
                · refine Or.inr ⟨_, ⟨n, by omega, h0, rfl⟩, fun l hl hq => ?_⟩
                  by_cases e : l = n
                  · rw [e]; exact Nat.le_refl _
                  · have := h2 l (by omega) hq
                    omega
        rcases h1 10 with h | h
        · exact absurd h hz
        · exact h
      obtain ⟨b, ⟨j, y1, y2, y3⟩, hmin⟩ := hm
      obtain ⟨j1, j2, j3, j4, j5, j6⟩ := W j y1 y2
      have b1 : t ≤ b := by rw [y3]; exact so_ns_lo (by omega)
      have b2 : b < t + 720 := by rw [y3]; exact so_ns_hi j2 (by omega)
      have b3 : so_bq Q O j b := by
        refine ⟨y2, ?_, ?_⟩
        · rw [y3]; exact so_ns_at.1
        · rw [y3]; exact so_ns_at.2
      have b4 : ∀ s, t ≤ s → s < b → ∀ l, l < 10 → ¬ so_bq Q O l s := by
        intro s h1 h2 l hl hq
        obtain ⟨q1, q2, q3⟩ := hq
        have h3 := hmin l hl q1
        have h4 := so_ns_min (t := t) (show 0 < Q l by omega) h1 q2 q3
        omega
      refine ⟨nI b, fun post h => ?_, fun post h => ?_⟩
      · refine (hb _ (aQ, aC, aO) ?_).1
        refine br_t rfl ⟨11, so_X_ns_l hS W ht (fun z => absurd (z j y1) y2) (fun b' hj' hmin' => ?_) 10 0 11 (-6) rfl (by decide) (Or.inl ⟨fun j hj => absurd hj (Nat.not_lt_zero j), rfl⟩)⟩
        obtain ⟨l, z1, z2, z3⟩ := hj'
        have e : b' = b := by
          have a1 := hmin l z1 z2
          have a2 := hmin' j y1 y2
          omega
        rw [e]; exact h
      · refine (hb _ (aQ, aC, aO) ?_).2
        exact br_t rfl ⟨b - t + 1, so_Y_ns_b hS W ht b2 ⟨j, y1, b3⟩ b4 h (b - t) t (b - t + 1) (by omega) (by omega) (Nat.le_refl t)⟩
theorem so_o_room (hS : so_St Q C O aU aP aC aO aQ) (W : so_wf Q C O) (v1 : Int32) : ∃ r : Int32, (∀ post : Int32 → Prop, post r → wpX_room post (jb, aU, aP, aC, aO) v1) ∧ (∀ post : Int32 → Prop, post r → wpY_room post (aQ, aC, aO) v1) := by
  unfold wpX_room wpY_room
  dsimp only
  rcases so_badP v1 with hb | ⟨p, rfl, p1, p2, p3, hb⟩
  · refine ⟨-1, fun post h => ?_, fun post h => ?_⟩
    · refine (hb _ (aQ, aC, aO) ?_).1
      exact br_f (by decide) h
    · refine (hb _ (aQ, aC, aO) ?_).2
      exact br_f (by decide) h
  · refine ⟨nI (so_mx (so_rm Q C O p) p), fun post h => ?_, fun post h => ?_⟩
    · refine (hb _ (aQ, aC, aO) ?_).1
      exact br_t rfl ⟨p + 1, so_X_rml hS W (by omega) p2 p3 h p 0 (p + 1) (by omega) (by omega)⟩
    · refine (hb _ (aQ, aC, aO) ?_).2
      exact br_t rfl ⟨p + 1, so_Y_rml hS W (by omega) p2 h p 0 (p + 1) (by omega) (by omega)⟩
theorem so_o_load (hS : so_St Q C O aU aP aC aO aQ) (W : so_wf Q C O) (D : so_Dj Q C O) : ∃ r : Int32, (∀ post : Int32 → Prop, post r → wpX_load post (jb, aU, aP, aC, aO)) ∧ (∀ post : Int32 → Prop, post r → wpY_load post (aQ, aC, aO)) := by
  refine ⟨nI (so_L Q C 10), fun post h => ⟨11, so_X_load_l hS W h 10 0 11 rfl (by decide)⟩, fun post h => ⟨361, ?_⟩⟩
  rw [← so_load W D] at h
  exact so_Y_load_l hS W h 360 0 361 rfl (by decide)
end
end
section
/-! what is owed -/
theorem i_up {k : Nat} {u : SX} {v : SY} (h : i_Rel k u v) : i_Rel (k + 4) u v := h
theorem i_vc0 : wpX_init (fun u => wpY_init (fun v => i_Rel 0 u v)) := by
  unfold wpX_init wpY_init
  refine ⟨fun _ => 0, fun _ => 0, fun _ => 0, fun _ => 0, fun _ => 0, fun _ => 0, fun _ => 0, fun _ => 0, rfl, rfl, ?_, ?_, ?_⟩
  · intro i _
    exact ⟨(if_pos rfl).symm, nI_0.symm, fun z => absurd rfl z⟩
  · intro i _ z
    exact absurd rfl z
  · intro i j t _ _ _ h _
    exact absurd rfl (so_rn_iff.mp h).1
theorem i_vc_admit {k : Nat} {u : SX} {v : SY} (I : i_Rel k u v) (hk : k + 4 ≤ 2048) (v1 : Int32) (v2 : Int32) : wpX_admit (fun r u' => wpY_admit (fun r' v' => r' = r ∧ i_Rel (k + 4) u' v') v v1 v2) u v1 v2 := by
  obtain ⟨Q, C, O, aU, aP, aC, aO, aQ, rfl, rfl, hS, W, D⟩ := I
  obtain ⟨r, u', v', R, hX, hY⟩ := so_o_admit hS W D v1 v2
  exact hX _ (hY _ ⟨rfl, R _⟩)
theorem i_vc_admitAt {k : Nat} {u : SX} {v : SY} (I : i_Rel k u v) (hk : k + 4 ≤ 2048) (v1 : Int32) (v2 : Int32) (v3 : Int32) : wpX_admitAt (fun r u' => wpY_admitAt (fun r' v' => r' = r ∧ i_Rel (k + 4) u' v') v v1 v2 v3) u v1 v2 v3 := by
  obtain ⟨Q, C, O, aU, aP, aC, aO, aQ, rfl, rfl, hS, W, D⟩ := I
  obtain ⟨r, u', v', R, hX, hY⟩ := so_o_admitAt hS W D v1 v2 v3
  exact hX _ (hY _ ⟨rfl, R _⟩)
theorem i_vc_remove {k : Nat} {u : SX} {v : SY} (I : i_Rel k u v) (hk : k + 4 ≤ 2048) (v1 : Int32) : wpX_remove (fun r u' => wpY_remove (fun r' v' => r' = r ∧ i_Rel (k + 4) u' v') v v1) u v1 := by
  obtain ⟨Q, C, O, aU, aP, aC, aO, aQ, rfl, rfl, hS, W, D⟩ := I
  obtain ⟨r, u', v', R, hX, hY⟩ := so_o_remove hS W D v1
  exact hX _ (hY _ ⟨rfl, R _⟩)
theorem i_vc_offset {k : Nat} {u : SX} {v : SY} (I : i_Rel k u v) (hk : k + 4 ≤ 2048) (v1 : Int32) : wpX_offset (fun r => wpY_offset (fun r' => r' = r ∧ i_Rel (k + 4) u v) v v1) u v1 := by
  have R : i_Rel (k + 4) u v := I
  obtain ⟨Q, C, O, aU, aP, aC, aO, aQ, rfl, rfl, hS, W, D⟩ := I
  obtain ⟨r, hX, hY⟩ := so_o_offset (jb := nI (so_cn (so_us Q) 10)) hS W v1
  exact hX _ (hY _ ⟨rfl, R⟩)
theorem i_vc_running {k : Nat} {u : SX} {v : SY} (I : i_Rel k u v) (hk : k + 4 ≤ 2048) (v1 : Int32) : wpX_running (fun r => wpY_running (fun r' => r' = r ∧ i_Rel (k + 4) u v) v v1) u v1 := by
  have R : i_Rel (k + 4) u v := I
  obtain ⟨Q, C, O, aU, aP, aC, aO, aQ, rfl, rfl, hS, W, D⟩ := I
  obtain ⟨r, hX, hY⟩ := so_o_running (jb := nI (so_cn (so_us Q) 10)) hS W v1
  exact hX _ (hY _ ⟨rfl, R⟩)
theorem i_vc_free {k : Nat} {u : SX} {v : SY} (I : i_Rel k u v) (hk : k + 4 ≤ 2048) (v1 : Int32) (v2 : Int32) : wpX_free (fun r => wpY_free (fun r' => r' = r ∧ i_Rel (k + 4) u v) v v1 v2) u v1 v2 := by
  have R : i_Rel (k + 4) u v := I
  obtain ⟨Q, C, O, aU, aP, aC, aO, aQ, rfl, rfl, hS, W, D⟩ := I
  obtain ⟨r, hX, hY⟩ := so_o_free (jb := nI (so_cn (so_us Q) 10)) hS W D v1 v2
  exact hX _ (hY _ ⟨rfl, R⟩)
theorem i_vc_starts {k : Nat} {u : SX} {v : SY} (I : i_Rel k u v) (hk : k + 4 ≤ 2048) (v1 : Int32) (v2 : Int32) (v3 : Int32) : wpX_starts (fun r => wpY_starts (fun r' => r' = r ∧ i_Rel (k + 4) u v) v v1 v2 v3) u v1 v2 v3 := by
  have R : i_Rel (k + 4) u v := I
  obtain ⟨Q, C, O, aU, aP, aC, aO, aQ, rfl, rfl, hS, W, D⟩ := I
  obtain ⟨r, hX, hY⟩ := so_o_starts (jb := nI (so_cn (so_us Q) 10)) hS W v1 v2 v3
  exact hX _ (hY _ ⟨rfl, R⟩)
theorem i_vc_nextStart {k : Nat} {u : SX} {v : SY} (I : i_Rel k u v) (hk : k + 4 ≤ 2048) (v1 : Int32) : wpX_nextStart (fun r => wpY_nextStart (fun r' => r' = r ∧ i_Rel (k + 4) u v) v v1) u v1 := by
  have R : i_Rel (k + 4) u v := I
  obtain ⟨Q, C, O, aU, aP, aC, aO, aQ, rfl, rfl, hS, W, D⟩ := I
  obtain ⟨r, hX, hY⟩ := so_o_nextStart (jb := nI (so_cn (so_us Q) 10)) hS W v1
  exact hX _ (hY _ ⟨rfl, R⟩)
theorem i_vc_room {k : Nat} {u : SX} {v : SY} (I : i_Rel k u v) (hk : k + 4 ≤ 2048) (v1 : Int32) : wpX_room (fun r => wpY_room (fun r' => r' = r ∧ i_Rel (k + 4) u v) v v1) u v1 := by
  have R : i_Rel (k + 4) u v := I
  obtain ⟨Q, C, O, aU, aP, aC, aO, aQ, rfl, rfl, hS, W, D⟩ := I
  obtain ⟨r, hX, hY⟩ := so_o_room (jb := nI (so_cn (so_us Q) 10)) hS W v1
  exact hX _ (hY _ ⟨rfl, R⟩)
theorem i_vc_load {k : Nat} {u : SX} {v : SY} (I : i_Rel k u v) (hk : k + 4 ≤ 2048) : wpX_load (fun r => wpY_load (fun r' => r' = r ∧ i_Rel (k + 4) u v) v) u := by
  have R : i_Rel (k + 4) u v := I
  obtain ⟨Q, C, O, aU, aP, aC, aO, aQ, rfl, rfl, hS, W, D⟩ := I
  obtain ⟨r, hX, hY⟩ := so_o_load (jb := nI (so_cn (so_us Q) 10)) hS W D
  exact hX _ (hY _ ⟨rfl, R⟩)
end
