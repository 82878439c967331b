section
/-- how many i below n satisfy P -/
def bc_cnt (P : Nat → Bool) : Nat → Nat
  | 0 => 0
  | n + 1 => bc_cnt P n + (if P n = true then 1 else 0)
theorem bc_cnt_s (P : Nat → Bool) (n : Nat) : bc_cnt P (n + 1) = bc_cnt P n + (if P n = true then 1 else 0) := rfl
theorem bc_cnt_le (P : Nat → Bool) (n : Nat) : bc_cnt P n ≤ n := by
  induction n with
  | zero => exact Nat.le_refl 0
  | succ n ih =>
    rw [bc_cnt_s]
    split <;> omega
theorem bc_cnt_congr {P Q : Nat → Bool} {n : Nat} (h : ∀ i, i < n → P i = Q i) : bc_cnt P n = bc_cnt Q n := by
  induction n with
  | zero => rfl
  | succ n ih =>
    rw [bc_cnt_s, bc_cnt_s, ih (fun i hi => h i (by omega)), h n (by omega)]
theorem bc_cnt_mono {P Q : Nat → Bool} {n : Nat} (h : ∀ i, i < n → P i = true → Q i = true) : bc_cnt P n ≤ bc_cnt Q n := by
  induction n with
  | zero => exact Nat.le_refl 0
  | succ n ih =>
    have h1 := ih (fun i hi => h i (by omega))
    have hn := h n (by omega)
    rw [bc_cnt_s, bc_cnt_s]
    by_cases hp : P n = true
    · rw [if_pos hp, if_pos (hn hp)]
      omega
    · rw [if_neg hp]
      split <;> omega
theorem bc_cnt_remove (P : Nat → Bool) (v : Nat) (n : Nat) (hv : v < n) : bc_cnt P n = bc_cnt (fun i => P i && !(i == v)) n + (if P v = true then 1 else 0) := by
  induction n with
  | zero => omega
  | succ n ih =>
    rw [bc_cnt_s, bc_cnt_s]
    by_cases e : v = n
    · subst e
      have h1 : bc_cnt (fun i => P i && !(i == v)) v = bc_cnt P v := by
        apply bc_cnt_congr
        intro i hi
        have : (i == v) = false := by simp; omega
        simp [this]
      rw [h1]
      simp
    · rw [ih (by omega)]
      have : (n == v) = false := by simp; omega
      simp only [this, Bool.not_false, Bool.and_true]
      omega
theorem bc_cnt_lt {P Q : Nat → Bool} {n v : Nat} (h : ∀ i, i < n → P i = true → Q i = true) (hv : v < n) (hp : P v = false) (hq : Q v = true) : bc_cnt P n < bc_cnt Q n := by
  rw [bc_cnt_remove Q v n hv, if_pos hq]
  have : bc_cnt P n ≤ bc_cnt (fun i => Q i && !(i == v)) n := by
    apply bc_cnt_mono
    intro i hi hpi
    have hne : ¬ i = v := by
      intro e
      rw [e, hp] at hpi
      cases hpi
    simp [h i hi hpi, hne]
  omega
theorem bc_cnt_not (P : Nat → Bool) (n : Nat) : bc_cnt P n + bc_cnt (fun i => !(P i)) n = n := by
  induction n with
  | zero => rfl
  | succ n ih =>
    rw [bc_cnt_s, bc_cnt_s]
    cases h : P n <;> simp <;> omega
theorem bc_cnt_or {P Q R : Nat → Bool} {n : Nat} (h : ∀ i, i < n → (R i = true ↔ (P i = true ∨ Q i = true)) ∧ ¬ (P i = true ∧ Q i = true)) : bc_cnt R n = bc_cnt P n + bc_cnt Q n := by
  induction n with
  | zero => rfl
  | succ n ih =>
    obtain ⟨h1, h2⟩ := h n (by omega)
    rw [bc_cnt_s, bc_cnt_s, bc_cnt_s, ih (fun i hi => h i (by omega))]
    by_cases hp : P n = true
    · have hq : ¬ Q n = true := fun hq => h2 ⟨hp, hq⟩
      rw [if_pos hp, if_neg hq, if_pos (h1.mpr (Or.inl hp))]
      omega
    · by_cases hq : Q n = true
      · rw [if_neg hp, if_pos hq, if_pos (h1.mpr (Or.inr hq))]
        omega
      · have hr : ¬ R n = true := fun hr => (h1.mp hr).elim hp hq
        rw [if_neg hp, if_neg hq, if_neg hr]
        omega
theorem bc_cnt_add (P : Nat → Bool) (a b : Nat) : bc_cnt P (a + b) = bc_cnt P a + bc_cnt (fun i => P (a + i)) b := by
  induction b with
  | zero => rfl
  | succ b ih =>
    rw [show a + (b + 1) = (a + b) + 1 by omega, bc_cnt_s, bc_cnt_s, ih]
    omega
theorem bc_cnt_pos {P : Nat → Bool} {n : Nat} (h : 0 < bc_cnt P n) : ∃ i, i < n ∧ P i = true := by
  induction n with
  | zero => exact absurd h (Nat.lt_irrefl 0)
  | succ n ih =>
    by_cases hp : P n = true
    · exact ⟨n, by omega, hp⟩
    · rw [bc_cnt_s, if_neg hp] at h
      obtain ⟨i, hi, h2⟩ := ih (by omega)
      exact ⟨i, by omega, h2⟩
theorem bc_cnt_all {P : Nat → Bool} {n : Nat} (h : ∀ i, i < n → P i = true) : bc_cnt P n = n := by
  induction n with
  | zero => rfl
  | succ n ih => rw [bc_cnt_s, ih (fun i hi => h i (by omega)), if_pos (h n (by omega))]
theorem bc_cnt_none {P : Nat → Bool} {n : Nat} (h : ∀ i, i < n → P i = false) : bc_cnt P n = 0 := by
  induction n with
  | zero => rfl
  | succ n ih => rw [bc_cnt_s, ih (fun i hi => h i (by omega)), h n (by omega)]; rfl
theorem bc_cnt_ltc {i n : Nat} (h : i ≤ n) : bc_cnt (fun j => decide (j < i)) n = i := by
  obtain ⟨d, rfl⟩ : ∃ d, n = i + d := ⟨n - i, by omega⟩
  rw [bc_cnt_add, bc_cnt_all (fun j hj => by simpa using hj), bc_cnt_none (fun j hj => by simp)]
  rfl
theorem bc_cnt_inj_le (s : Nat → Nat) (n : Nat) (m : Nat) : ∀ (P : Nat → Bool), (∀ i, i < m → s i < n) → (∀ i j, i < m → j < m → s i = s j → i = j) → bc_cnt (fun i => P (s i)) m ≤ bc_cnt P n := by
  induction m with
  | zero => intro P _ _; exact Nat.zero_le _
  | succ m ih =>
    intro P hb hi
    have h1 := ih (fun v => P v && !(v == s m)) (fun i h => hb i (by omega)) (fun i j h h' => hi i j (by omega) (by omega))
    have h2 : bc_cnt (fun i => P (s i)) m = bc_cnt (fun i => P (s i) && !(s i == s m)) m := by
      apply bc_cnt_congr
      intro i h
      have hne : ¬ s i = s m := fun e => absurd (hi i m (by omega) (by omega) e) (by omega)
      simp [hne]
    rw [bc_cnt_s, bc_cnt_remove P (s m) n (hb m (by omega)), h2]
    have h1' : bc_cnt (fun i => P (s i) && !(s i == s m)) m ≤ bc_cnt (fun v => P v && !(v == s m)) n := h1
    omega
theorem bc_cnt_inj {s : Nat → Nat} {n : Nat} (hb : ∀ i, i < n → s i < n) (hi : ∀ i j, i < n → j < n → s i = s j → i = j) (P : Nat → Bool) : bc_cnt (fun i => P (s i)) n = bc_cnt P n := by
  have h1 := bc_cnt_inj_le s n n P hb hi
  have h2 := bc_cnt_inj_le s n n (fun v => !(P v)) hb hi
  have h3 := bc_cnt_not P n
  have h4 := bc_cnt_not (fun i => P (s i)) n
  have h2' : bc_cnt (fun i => !(P (s i))) n ≤ bc_cnt (fun v => !(P v)) n := h2
  have h4' : bc_cnt (fun i => P (s i)) n + bc_cnt (fun i => !(P (s i))) n = n := h4
  omega
theorem bc_surj {s : Nat → Nat} {n : Nat} (hb : ∀ i, i < n → s i < n) (hi : ∀ i j, i < n → j < n → s i = s j → i = j) {v : Nat} (hv : v < n) : ∃ i, i < n ∧ s i = v := by
  have h1 := bc_cnt_inj hb hi (fun x => x == v)
  have h2 : 0 < bc_cnt (fun x => x == v) n := by
    rw [bc_cnt_remove (fun x => x == v) v n hv]
    simp
  rw [← h1] at h2
  obtain ⟨i, h3, h4⟩ := bc_cnt_pos h2
  exact ⟨i, h3, by simpa using h4⟩
/-! ranks by a key -/
def bc_rk (G : Nat → Nat) (n p : Nat) : Nat := bc_cnt (fun q => decide (G q < G p)) n
theorem bc_rk_lt {G : Nat → Nat} {n p : Nat} (hp : p < n) : bc_rk G n p < n := by
  have h := bc_cnt_lt (P := fun q => decide (G q < G p)) (Q := fun _ => true) (n := n) (v := p) (fun _ _ _ => rfl) hp (by simp) rfl
  rw [bc_cnt_all (P := fun _ => true) (fun _ _ => rfl)] at h
  exact h
theorem bc_rk_mono {G : Nat → Nat} {n p q : Nat} (hp : p < n) (h : G p < G q) : bc_rk G n p < bc_rk G n q := by
  refine bc_cnt_lt (v := p) (fun i _ hi => ?_) hp (by simp) (by simpa using h)
  have : G i < G p := by simpa using hi
  simp
  omega
theorem bc_rk_inj {G : Nat → Nat} {n p q : Nat} (hG : ∀ i j, i < n → j < n → G i = G j → i = j) (hp : p < n) (hq : q < n) (h : bc_rk G n p = bc_rk G n q) : p = q := by
  apply hG p q hp hq
  rcases Nat.lt_trichotomy (G p) (G q) with h1 | h1 | h1
  · exact absurd (bc_rk_mono hp h1) (by omega)
  · exact h1
  · exact absurd (bc_rk_mono hq h1) (by omega)
theorem bc_rk_surj {G : Nat → Nat} {n i : Nat} (hG : ∀ i j, i < n → j < n → G i = G j → i = j) (hi : i < n) : ∃ p, p < n ∧ bc_rk G n p = i :=
  bc_surj (fun p hp => bc_rk_lt hp) (fun p q hp hq h => bc_rk_inj hG hp hq h) hi
theorem bc_rk_of_lt {G : Nat → Nat} {n p q : Nat} (hq : q < n) (h : bc_rk G n p < bc_rk G n q) : G p < G q := by
  rcases Nat.lt_or_ge (G p) (G q) with h1 | h1
  · exact h1
  · have : bc_rk G n q ≤ bc_rk G n p := by
      apply bc_cnt_mono
      intro i _ hi
      have : G i < G q := by simpa using hi
      simp
      omega
    omega
/-- o is sorted by G: its i-th has rank i -/
theorem bc_sorted_inj {G o : Nat → Nat} {n : Nat} (hs : ∀ i j, i < j → j < n → G (o i) < G (o j)) : ∀ i j, i < n → j < n → o i = o j → i = j := by
  intro i j hi hj e
  rcases Nat.lt_trichotomy i j with h | h | h
  · have := hs i j h hj
    rw [e] at this
    omega
  · exact h
  · have := hs j i h hi
    rw [e] at this
    omega
theorem bc_sorted_rk {G o : Nat → Nat} {n : Nat} (hb : ∀ i, i < n → o i < n) (hs : ∀ i j, i < j → j < n → G (o i) < G (o j)) {i : Nat} (hi : i < n) : bc_rk G n (o i) = i := by
  have h1 := bc_cnt_inj hb (bc_sorted_inj hs) (fun q => decide (G q < G (o i)))
  have h2 : bc_cnt (fun j => decide (G (o j) < G (o i))) n = bc_cnt (fun j => decide (j < i)) n := by
    apply bc_cnt_congr
    intro j hj
    rcases Nat.lt_trichotomy j i with h | h | h
    · have := hs j i h hi
      simp [h, this]
    · subst h
      simp
    · have := hs i j h hj
      have h3 : ¬ G (o j) < G (o i) := by omega
      have h4 : ¬ j < i := by omega
      simp [h3, h4]
  rw [bc_cnt_ltc (by omega)] at h2
  unfold bc_rk
  rw [← h1]
  exact h2
theorem bc_sorted_at {G o : Nat → Nat} {n : Nat} (hG : ∀ i j, i < n → j < n → G i = G j → i = j) (hb : ∀ i, i < n → o i < n) (hs : ∀ i j, i < j → j < n → G (o i) < G (o j)) {p : Nat} (hp : p < n) : o (bc_rk G n p) = p :=
  bc_rk_inj hG (hb _ (bc_rk_lt hp)) hp (bc_sorted_rk hb hs (bc_rk_lt hp))
/-- between the smaller ones and the not greater ones stand those of the key v -/
theorem bc_between {K o : Nat → Nat} {n v i : Nat} (hb : ∀ i, i < n → o i < n) (hs : ∀ i j, i < j → j < n → K (o i) * 64 + o i < K (o j) * 64 + o j) (hn : n ≤ 64)
    (h1 : bc_cnt (fun q => decide (K q < v)) n ≤ i) (h2 : i < bc_cnt (fun q => decide (K q ≤ v)) n) : K (o i) = v := by
  have hi : i < n := Nat.lt_of_lt_of_le h2 (bc_cnt_le _ _)
  have hr : bc_rk (fun p => K p * 64 + p) n (o i) = i := bc_sorted_rk (G := fun p => K p * 64 + p) hb hs hi
  have ho := hb i hi
  rcases Nat.lt_trichotomy (K (o i)) v with h | h | h
  · have : bc_rk (fun p => K p * 64 + p) n (o i) < bc_cnt (fun q => decide (K q < v)) n := by
      refine bc_cnt_lt (v := o i) (fun q hq hh => ?_) ho (by simp) (by simpa using h)
      have hh' : K q * 64 + q < K (o i) * 64 + o i := by simpa using hh
      simp
      omega
    omega
  · exact h
  · have : bc_cnt (fun q => decide (K q ≤ v)) n ≤ bc_rk (fun p => K p * 64 + p) n (o i) := by
      apply bc_cnt_mono
      intro q hq hh
      have hh' : K q ≤ v := by simpa using hh
      simp
      omega
    omega
/-! sums -/
def bc_sum (f : Nat → Nat) : Nat → Nat
  | 0 => 0
  | n + 1 => bc_sum f n + f n
theorem bc_sum_s (f : Nat → Nat) (n : Nat) : bc_sum f (n + 1) = bc_sum f n + f n := rfl
theorem bc_sum_congr {f g : Nat → Nat} {n : Nat} (h : ∀ i, i < n → f i = g i) : bc_sum f n = bc_sum g n := by
  induction n with
  | zero => rfl
  | succ n ih => rw [bc_sum_s, bc_sum_s, ih (fun i hi => h i (by omega)), h n (by omega)]
theorem bc_sum_mono {f g : Nat → Nat} {n : Nat} (h : ∀ i, i < n → f i ≤ g i) : bc_sum f n ≤ bc_sum g n := by
  induction n with
  | zero => exact Nat.le_refl 0
  | succ n ih =>
    have h1 := ih (fun i hi => h i (by omega))
    have h2 := h n (by omega)
    rw [bc_sum_s, bc_sum_s]
    omega
theorem bc_sum_add (f g : Nat → Nat) (n : Nat) : bc_sum (fun i => f i + g i) n = bc_sum f n + bc_sum g n := by
  induction n with
  | zero => rfl
  | succ n ih =>
    rw [bc_sum_s, bc_sum_s, bc_sum_s, ih]
    omega
theorem bc_sum_point {f g : Nat → Nat} {n v d : Nat} (hv : v < n) (h : ∀ i, i < n → i ≠ v → g i = f i) (hd : g v = f v + d) : bc_sum g n = bc_sum f n + d := by
  induction n with
  | zero => omega
  | succ n ih =>
    rw [bc_sum_s, bc_sum_s]
    by_cases e : v = n
    · subst e
      rw [bc_sum_congr (f := g) (g := f) (fun i hi => h i (by omega) (by omega)), hd]
      omega
    · rw [ih (by omega) (fun i hi => h i (by omega)), h n (by omega) (by omega)]
      omega
theorem bc_sum_zero {f : Nat → Nat} {n : Nat} (h : ∀ i, i < n → f i = 0) : bc_sum f n = 0 := by
  induction n with
  | zero => rfl
  | succ n ih => rw [bc_sum_s, ih (fun i hi => h i (by omega)), h n (by omega)]
theorem bc_sum_le1 {f : Nat → Nat} {n v : Nat} (hv : v < n) : f v ≤ bc_sum f n := by
  induction n with
  | zero => omega
  | succ n ih =>
    rw [bc_sum_s]
    by_cases e : v = n
    · subst e
      omega
    · have := ih (by omega)
      omega
end
section
/-- the r letters from p on, as a number -/
def bc_K (T : Nat → Nat) : Nat → Nat → Nat
  | 0, _ => 0
  | r + 1, p => bc_K T r p * 6 + T (p + r)
theorem bc_K_s (T : Nat → Nat) (r p : Nat) : bc_K T (r + 1) p = bc_K T r p * 6 + T (p + r) := rfl
theorem bc_K_1 (T : Nat → Nat) (p : Nat) : bc_K T 1 p = T p := by
  show 0 * 6 + T (p + 0) = T p
  rw [Nat.add_zero]
  omega
theorem bc_K_add (T : Nat → Nat) (a b p : Nat) : bc_K T (a + b) p = bc_K T a p * 6 ^ b + bc_K T b (p + a) := by
  induction b with
  | zero => show bc_K T a p = bc_K T a p * 6 ^ 0 + 0; omega
  | succ b ih =>
    rw [show a + (b + 1) = (a + b) + 1 by omega, bc_K_s, bc_K_s, ih, Nat.pow_succ, Nat.add_mul, Nat.mul_assoc, show p + (a + b) = p + a + b by omega]
    omega
theorem bc_K_lt {T : Nat → Nat} (h6 : ∀ i, T i < 6) (r p : Nat) : bc_K T r p < 6 ^ r := by
  induction r with
  | zero => exact Nat.one_pos
  | succ r ih =>
    have := h6 (p + r)
    rw [bc_K_s, Nat.pow_succ]
    omega
theorem bc_K_per {T : Nat → Nat} {n : Nat} (hT : ∀ i, T (i + n) = T i) (r p : Nat) : bc_K T r (p + n) = bc_K T r p := by
  induction r with
  | zero => rfl
  | succ r ih => rw [bc_K_s, bc_K_s, ih, show p + n + r = p + r + n by omega, hT]
theorem bc_per_mul {T : Nat → Nat} {n : Nat} (hT : ∀ i, T (i + n) = T i) (i k : Nat) : T (i + n * k) = T i := by
  induction k with
  | zero => rfl
  | succ k ih => rw [Nat.mul_succ, ← Nat.add_assoc, hT, ih]
theorem bc_per_mod {T : Nat → Nat} {n : Nat} (hT : ∀ i, T (i + n) = T i) (i : Nat) : T (i % n) = T i := by
  have h := bc_per_mul hT (i % n) (i / n)
  rw [Nat.mod_add_div] at h
  exact h.symm
theorem bc_K_mod {T : Nat → Nat} {n : Nat} (hT : ∀ i, T (i + n) = T i) (r p : Nat) : bc_K T r (p % n) = bc_K T r p :=
  bc_per_mod (T := bc_K T r) (fun i => bc_K_per hT r i) p
/-- two numbers by their first digits and then by the rest -/
theorem bc_lexlt {a b c d m : Nat} (hb : b < m) (hd : d < m) : a * m + b < c * m + d ↔ (a < c ∨ (a = c ∧ b < d)) := by
  constructor
  · intro h
    rcases Nat.lt_trichotomy a c with h1 | h1 | h1
    · exact Or.inl h1
    · subst h1
      exact Or.inr ⟨rfl, by omega⟩
    · have : (c + 1) * m ≤ a * m := Nat.mul_le_mul_right m h1
      rw [Nat.succ_mul] at this
      omega
  · rintro (h | ⟨rfl, h⟩)
    · have : (a + 1) * m ≤ c * m := Nat.mul_le_mul_right m h
      rw [Nat.succ_mul] at this
      omega
    · omega
theorem bc_lexeq {a b c d m : Nat} (hb : b < m) (hd : d < m) (h : a * m + b = c * m + d) : a = c ∧ b = d := by
  rcases Nat.lt_trichotomy a c with h1 | h1 | h1
  · have := (bc_lexlt (b := b) (d := d) hb hd).mpr (Or.inl h1)
    omega
  · subst h1
    exact ⟨rfl, by omega⟩
  · have := (bc_lexlt (b := d) (d := b) hd hb).mpr (Or.inl h1)
    omega
theorem bc_K_dbl {T : Nat → Nat} (h6 : ∀ i, T i < 6) (a b p q : Nat) : bc_K T (a + b) p < bc_K T (a + b) q ↔ (bc_K T a p < bc_K T a q ∨ (bc_K T a p = bc_K T a q ∧ bc_K T b (p + a) < bc_K T b (q + a))) := by
  rw [bc_K_add, bc_K_add]
  exact bc_lexlt (bc_K_lt h6 _ _) (bc_K_lt h6 _ _)
theorem bc_K_pre {T : Nat → Nat} (h6 : ∀ i, T i < 6) {a b p q : Nat} (h : bc_K T (a + b) p = bc_K T (a + b) q) : bc_K T a p = bc_K T a q ∧ bc_K T b (p + a) = bc_K T b (q + a) := by
  rw [bc_K_add, bc_K_add] at h
  exact bc_lexeq (bc_K_lt h6 _ _) (bc_K_lt h6 _ _) h
theorem bc_K_eq {T : Nat → Nat} (h6 : ∀ i, T i < 6) {r p q : Nat} (h : bc_K T r p = bc_K T r q) {j : Nat} (hj : j < r) : T (p + j) = T (q + j) := by
  have h1 := bc_K_pre (a := j) (b := r - j) h6 (p := p) (q := q) (by rw [show j + (r - j) = r by omega]; exact h)
  have h2 := bc_K_pre (a := 1) (b := r - j - 1) h6 (p := p + j) (q := q + j) (by rw [show 1 + (r - j - 1) = r - j by omega]; exact h1.2)
  have h3 := h2.1
  rw [bc_K_1, bc_K_1] at h3
  exact h3
theorem bc_K_of {T : Nat → Nat} {r p q : Nat} (h : ∀ j, j < r → T (p + j) = T (q + j)) : bc_K T r p = bc_K T r q := by
  induction r with
  | zero => rfl
  | succ r ih => rw [bc_K_s, bc_K_s, ih (fun j hj => h j (by omega)), h r (by omega)]
/-- equal from p and from q on -/
def bc_E (T : Nat → Nat) (p q : Nat) : Prop := ∀ i, T (p + i) = T (q + i)
theorem bc_E_of {T : Nat → Nat} (h6 : ∀ i, T i < 6) {n p q : Nat} (hT : ∀ i, T (i + n) = T i) (hn : n ≤ 64) (h0 : 0 < n) (h : bc_K T 64 p = bc_K T 64 q) : bc_E T p q := by
  intro i
  have h1 := bc_K_eq h6 h (j := i % n) (Nat.lt_of_lt_of_le (Nat.mod_lt _ h0) hn)
  have h2 := bc_per_mul hT (p + i % n) (i / n)
  have h3 := bc_per_mul hT (q + i % n) (i / n)
  rw [Nat.add_assoc, Nat.mod_add_div] at h2 h3
  rw [h2, h3, h1]
theorem bc_E_s {T : Nat → Nat} {p q : Nat} (h : bc_E T p q) : bc_E T (p + 1) (q + 1) := by
  intro i
  have := h (1 + i)
  rw [← Nat.add_assoc, ← Nat.add_assoc] at this
  exact this
theorem bc_E_K {T : Nat → Nat} {p q : Nat} (h : bc_E T p q) (r : Nat) : bc_K T r p = bc_K T r q := bc_K_of (fun j _ => h j)
/-- the key of a rotation: its letters, then its number -/
def bc_G (T : Nat → Nat) (p : Nat) : Nat := bc_K T 64 p * 64 + p
theorem bc_G_inj {T : Nat → Nat} {n : Nat} (hn : n ≤ 64) : ∀ i j, i < n → j < n → bc_G T i = bc_G T j → i = j := by
  intro i j hi hj h
  exact (bc_lexeq (m := 64) (by omega) (by omega) h).2
theorem bc_G_lt {T : Nat → Nat} {p q : Nat} (hp : p < 64) (hq : q < 64) : bc_G T p < bc_G T q ↔ (bc_K T 64 p < bc_K T 64 q ∨ (bc_K T 64 p = bc_K T 64 q ∧ p < q)) := bc_lexlt hp hq
/-- the order of the rotations of n letters -/
def bc_ord (T : Nat → Nat) (n : Nat) (o : Nat → Nat) : Prop := (∀ i, i < n → o i < n) ∧ (∀ i j, i < j → j < n → bc_G T (o i) < bc_G T (o j))
theorem bc_ord_rk {T : Nat → Nat} {n : Nat} {o : Nat → Nat} (h : bc_ord T n o) {i : Nat} (hi : i < n) : bc_rk (bc_G T) n (o i) = i := bc_sorted_rk h.1 h.2 hi
theorem bc_ord_at {T : Nat → Nat} {n : Nat} {o : Nat → Nat} (hn : n ≤ 64) (h : bc_ord T n o) {p : Nat} (hp : p < n) : o (bc_rk (bc_G T) n p) = p := bc_sorted_at (bc_G_inj hn) h.1 h.2 hp
/-! eight letters four times -/
theorem bc_K8 {T : Nat → Nat} (hT : ∀ i, T (i + 8) = T i) (k p : Nat) : ∃ c, 0 < c ∧ ∀ p, bc_K T (8 * (k + 1)) p = bc_K T 8 p * c := by
  induction k with
  | zero => exact ⟨1, Nat.one_pos, fun p => (Nat.mul_one _).symm⟩
  | succ k ih =>
    obtain ⟨c, hc, h⟩ := ih
    refine ⟨6 ^ (8 * (k + 1)) + c, Nat.add_pos_right _ hc, fun p => ?_⟩
    rw [show 8 * (k + 1 + 1) = 8 + 8 * (k + 1) by omega, bc_K_add, h, bc_K_per hT]
    exact (Nat.mul_add _ _ _).symm
theorem bc_K64 {T : Nat → Nat} (hT : ∀ i, T (i + 8) = T i) (p q : Nat) : bc_K T 64 p < bc_K T 64 q ↔ bc_K T 8 p < bc_K T 8 q := by
  obtain ⟨c, hc, h⟩ := bc_K8 hT 7 0
  rw [show 64 = 8 * (7 + 1) from rfl, h, h]
  exact Nat.mul_lt_mul_right hc
theorem bc_cnt32 {P : Nat → Bool} (hP : ∀ i, P (i + 8) = P i) : bc_cnt P 32 = 4 * bc_cnt P 8 := by
  have h : ∀ k, bc_cnt (fun i => P (8 * k + i)) 8 = bc_cnt P 8 := by
    intro k
    apply bc_cnt_congr
    intro i _
    induction k with
    | zero => rw [Nat.mul_zero, Nat.zero_add]
    | succ k ih => rw [show 8 * (k + 1) + i = 8 * k + i + 8 by omega, hP, ih]
  rw [show (32 : Nat) = 24 + 8 from rfl, bc_cnt_add, show (24 : Nat) = 16 + 8 from rfl, bc_cnt_add, show (16 : Nat) = 8 + 8 from rfl, bc_cnt_add]
  have h1 := h 1
  have h2 := h 2
  have h3 := h 3
  have h1' : bc_cnt (fun i => P (8 + i)) 8 = bc_cnt P 8 := h1
  have h2' : bc_cnt (fun i => P (8 + 8 + i)) 8 = bc_cnt P 8 := h2
  have h3' : bc_cnt (fun i => P (8 + 8 + 8 + i)) 8 = bc_cnt P 8 := h3
  rw [h1', h2', h3']
  omega
theorem bc_col32 {T o8 o32 : Nat → Nat} (h6 : ∀ i, T i < 6) (hT : ∀ i, T (i + 8) = T i) (h8 : bc_ord T 8 o8) (h32 : bc_ord T 32 o32) {i : Nat} (hi : i < 32) : T (o32 i + 31) = T (o8 (i / 4) + 7) := by
  have hd : i / 4 < 8 := by omega
  have hr := bc_ord_rk h8 hd
  have ho := h8.1 _ hd
  have hper : ∀ p, bc_K T 64 (p + 8) = bc_K T 64 p := fun p => bc_K_per hT 64 p
  have e : bc_K T 64 (o32 i) = bc_K T 64 (o8 (i / 4)) := by
    refine bc_between (K := bc_K T 64) (n := 32) h32.1 (fun i j h h' => h32.2 i j h h') (by omega) ?_ ?_
    · rw [bc_cnt32 (fun i => by show decide (_ < _) = decide (_ < _); rw [hper])]
      have : bc_cnt (fun q => decide (bc_K T 64 q < bc_K T 64 (o8 (i / 4)))) 8 ≤ bc_rk (bc_G T) 8 (o8 (i / 4)) := by
        apply bc_cnt_mono
        intro q hq hh
        have hh' : bc_K T 64 q < bc_K T 64 (o8 (i / 4)) := by simpa using hh
        have := (bc_G_lt (T := T) (p := q) (q := o8 (i / 4)) (by omega) (by omega)).mpr (Or.inl hh')
        simpa using this
      omega
    · rw [bc_cnt32 (fun i => by show decide (_ ≤ _) = decide (_ ≤ _); rw [hper])]
      have : bc_rk (bc_G T) 8 (o8 (i / 4)) < bc_cnt (fun q => decide (bc_K T 64 q ≤ bc_K T 64 (o8 (i / 4)))) 8 := by
        refine bc_cnt_lt (v := o8 (i / 4)) (fun q hq hh => ?_) ho (by simp) (by simp)
        have hh' : bc_G T q < bc_G T (o8 (i / 4)) := by simpa using hh
        have := (bc_G_lt (T := T) (p := q) (q := o8 (i / 4)) (by omega) (by omega)).mp hh'
        simp
        omega
      omega
  have h1 := bc_E_of h6 hT (by omega) (by omega) e 31
  have h2 := bc_per_mul hT (o8 (i / 4) + 7) 3
  rw [h1, ← h2]
/-! undoing the sorting -/
theorem bc_prev_inj {n : Nat} {o : Nat → Nat} (hb : ∀ i, i < n → o i < n) (hi : ∀ i j, i < n → j < n → o i = o j → i = j) : ∀ i j, i < n → j < n → (o i + n - 1) % n = (o j + n - 1) % n → i = j := by
  intro i j h h' e
  have h1 := hb i h
  have h2 := hb j h'
  apply hi i j h h'
  have a1 : ∀ x, x < n → (x + n - 1) % n = if x = 0 then n - 1 else x - 1 := by
    intro x hx
    split
    · rename_i z
      rw [z, Nat.zero_add]
      exact Nat.mod_eq_of_lt (by omega)
    · rw [show x + n - 1 = (x - 1) + n by omega, Nat.add_mod_right]
      exact Nat.mod_eq_of_lt (by omega)
  rw [a1 _ h1, a1 _ h2] at e
  split at e <;> split at e <;> omega
theorem bc_back {T o : Nat → Nat} {n : Nat} (h6 : ∀ i, T i < 6) (hT : ∀ i, T (i + n) = T i) (hn : n ≤ 64) (h : bc_ord T n o) {k : Nat} (hk : k < n) :
    bc_E T (o (bc_rk (fun k => T (o k + n - 1) * 64 + k) n k)) (o k + n - 1) := by
  have hoi := bc_sorted_inj h.2
  apply bc_E_of h6 hT hn (by omega)
  have hm : ∀ j, j < n → bc_K T 64 (o j + n - 1) = T (o j + n - 1) * 6 ^ 63 + bc_K T 63 (o j) := by
    intro j hj
    rw [show (64 : Nat) = 1 + 63 from rfl, bc_K_add, bc_K_1, show o j + n - 1 + 1 = o j + n by omega, bc_K_per hT]
  have hl : ∀ p, bc_K T 64 p = bc_K T 63 p * 6 + T (p + 63) := fun p => bc_K_s T 63 p
  refine bc_between (K := bc_K T 64) h.1 (fun i j a b => h.2 i j a b) hn ?_ ?_
  · rw [← bc_cnt_inj (s := fun j => (o j + n - 1) % n) (fun i hi => Nat.mod_lt _ (by omega)) (bc_prev_inj h.1 hoi)]
    apply bc_cnt_mono
    intro j hj hh
    have hh1 : bc_K T 64 ((o j + n - 1) % n) < bc_K T 64 (o k + n - 1) := by simpa using hh
    rw [bc_K_mod hT, hm j hj, hm k hk, bc_lexlt (bc_K_lt h6 _ _) (bc_K_lt h6 _ _)] at hh1
    have goal : T (o j + n - 1) * 64 + j < T (o k + n - 1) * 64 + k := by
      rw [bc_lexlt (by omega) (by omega)]
      rcases hh1 with z | ⟨z, z2⟩
      · exact Or.inl z
      · refine Or.inr ⟨z, ?_⟩
        rcases Nat.lt_trichotomy j k with y | y | y
        · exact y
        · subst y
          omega
        · have := h.2 k j y hj
          have g := (bc_G_lt (T := T) (p := o k) (q := o j) (by have := h.1 k hk; omega) (by have := h.1 j hj; omega)).mp this
          rw [hl, hl] at g
          have t1 := h6 (o k + 63)
          have t2 := h6 (o j + 63)
          omega
    simpa using goal
  · rw [← bc_cnt_inj (s := fun j => (o j + n - 1) % n) (fun i hi => Nat.mod_lt _ (by omega)) (bc_prev_inj h.1 hoi)]
    refine bc_cnt_lt (v := k) (fun j hj hh => ?_) hk (by simp) ?_
    · have hh1 : T (o j + n - 1) * 64 + j < T (o k + n - 1) * 64 + k := by simpa using hh
      rw [bc_lexlt (by omega) (by omega)] at hh1
      have goal : bc_K T 64 ((o j + n - 1) % n) ≤ bc_K T 64 (o k + n - 1) := by
        rw [bc_K_mod hT, hm j hj, hm k hk]
        rcases hh1 with z | ⟨z, z2⟩
        · exact Nat.le_of_lt ((bc_lexlt (bc_K_lt h6 _ _) (bc_K_lt h6 _ _)).mpr (Or.inl z))
        · rw [z]
          apply Nat.add_le_add_left
          have := h.2 j k z2 hk
          have g := (bc_G_lt (T := T) (p := o j) (q := o k) (by have := h.1 j hj; omega) (by have := h.1 k hk; omega)).mp this
          rw [hl, hl] at g
          have t1 := h6 (o k + 63)
          have t2 := h6 (o j + 63)
          omega
      simpa using goal
    · show decide (bc_K T 64 ((o k + n - 1) % n) ≤ _) = true
      rw [bc_K_mod hT]
      simp
end
section
/-- where the letter d stood last among the first k, plus one; 0: nowhere -/
def bc_la (col : Nat → Nat) : Nat → Nat → Nat
  | 0, _ => 0
  | k + 1, d => if col k = d then k + 1 else bc_la col k d
theorem bc_la_s (col : Nat → Nat) (k d : Nat) : bc_la col (k + 1) d = if col k = d then k + 1 else bc_la col k d := rfl
theorem bc_la_le (col : Nat → Nat) (k d : Nat) : bc_la col k d ≤ k := by
  induction k with
  | zero => exact Nat.le_refl 0
  | succ k ih =>
    rw [bc_la_s]
    split <;> omega
theorem bc_la_at {col : Nat → Nat} {k d : Nat} (h : 0 < bc_la col k d) : col (bc_la col k d - 1) = d := by
  induction k with
  | zero => exact absurd h (Nat.lt_irrefl 0)
  | succ k ih =>
    rw [bc_la_s] at h ⊢
    split
    · rename_i z
      exact z
    · rename_i z
      rw [if_neg z] at h
      exact ih h
theorem bc_la_ge {col : Nat → Nat} {k i d : Nat} (hk : k < i) (h : col k = d) : k < bc_la col i d := by
  induction i with
  | zero => omega
  | succ i ih =>
    rw [bc_la_s]
    by_cases e : k = i
    · subst e
      rw [if_pos h]
      omega
    · have := ih (by omega)
      split <;> omega
def bc_R (col : Nat → Nat) (k d : Nat) : Nat := if bc_la col k d = 0 then 100 + d else 100 - bc_la col k d
theorem bc_R_inj {col : Nat → Nat} {k : Nat} (hk : k ≤ 50) : ∀ i j, i < 6 → j < 6 → bc_R col k i = bc_R col k j → i = j := by
  intro i j hi hj h
  have h1 := bc_la_le col k i
  have h2 := bc_la_le col k j
  unfold bc_R at h
  split at h
  · split at h <;> omega
  · split at h
    · omega
    · rename_i a b
      have e : bc_la col k i = bc_la col k j := by omega
      have c1 := bc_la_at (col := col) (k := k) (d := i) (by omega)
      have c2 := bc_la_at (col := col) (k := k) (d := j) (by omega)
      rw [e] at c1
      omega
def bc_pos (col : Nat → Nat) (k d : Nat) : Nat := bc_rk (bc_R col k) 6 d
theorem bc_pos_lt {col : Nat → Nat} {k d : Nat} (hd : d < 6) : bc_pos col k d < 6 := bc_rk_lt hd
theorem bc_pos_inj {col : Nat → Nat} {k c d : Nat} (hk : k ≤ 50) (hc : c < 6) (hd : d < 6) (h : bc_pos col k c = bc_pos col k d) : c = d := bc_rk_inj (bc_R_inj hk) hc hd h
theorem bc_R_s (col : Nat → Nat) (k d : Nat) : bc_R col (k + 1) d = if col k = d then 100 - (k + 1) else bc_R col k d := by
  unfold bc_R
  rw [bc_la_s]
  by_cases e : col k = d
  · rw [if_pos e, if_pos e, if_neg (by omega)]
  · rw [if_neg e, if_neg e]
theorem bc_R_ge (col : Nat → Nat) (k d : Nat) : 100 - k ≤ bc_R col k d := by
  have := bc_la_le col k d
  unfold bc_R
  split <;> omega
theorem bc_pos_s0 {col : Nat → Nat} {k : Nat} (hk : k < 50) : bc_pos col (k + 1) (col k) = 0 := by
  apply bc_cnt_none
  intro q _
  have h1 := bc_R_ge col (k + 1) q
  have h2 : bc_R col (k + 1) (col k) = 100 - (k + 1) := by rw [bc_R_s, if_pos rfl]
  have h3 : ¬ bc_R col (k + 1) q < bc_R col (k + 1) (col k) := by omega
  simp [h3]
theorem bc_pos_s1 {col : Nat → Nat} {k c : Nat} (hk : k < 50) (h0 : col k < 6) (hc : c < 6) (hne : c ≠ col k) :
    bc_pos col (k + 1) c = if bc_pos col k c < bc_pos col k (col k) then bc_pos col k c + 1 else bc_pos col k c := by
  have e1 := bc_cnt_remove (fun q => decide (bc_R col k q < bc_R col k c)) (col k) 6 h0
  have e2 := bc_cnt_remove (fun q => decide (bc_R col (k + 1) q < bc_R col (k + 1) c)) (col k) 6 h0
  have hRc : bc_R col (k + 1) c = bc_R col k c := by rw [bc_R_s, if_neg (fun z => hne z.symm)]
  have hR0 : bc_R col (k + 1) (col k) = 100 - (k + 1) := by rw [bc_R_s, if_pos rfl]
  have hge := bc_R_ge col k c
  have e3 : bc_cnt (fun i => decide (bc_R col (k + 1) i < bc_R col (k + 1) c) && !(i == col k)) 6 = bc_cnt (fun i => decide (bc_R col k i < bc_R col k c) && !(i == col k)) 6 := by
    apply bc_cnt_congr
    intro i _
    by_cases e : i = col k
    · simp [e]
    · rw [hRc, bc_R_s, if_neg (fun z => e z.symm)]
  have h4 : bc_R col (k + 1) (col k) < bc_R col (k + 1) c := by omega
  have e2' : bc_pos col (k + 1) c = bc_cnt (fun i => decide (bc_R col k i < bc_R col k c) && !(i == col k)) 6 + 1 := by
    rw [← e3]
    rw [if_pos (decide_eq_true h4)] at e2
    exact e2
  have e1' : bc_pos col k c = bc_cnt (fun i => decide (bc_R col k i < bc_R col k c) && !(i == col k)) 6 + (if decide (bc_R col k (col k) < bc_R col k c) = true then 1 else 0) := e1
  by_cases g : bc_R col k (col k) < bc_R col k c
  · have : bc_pos col k (col k) < bc_pos col k c := bc_rk_mono h0 g
    rw [if_neg (by omega), e2', e1']
    simp [g]
  · have hneR : bc_R col k (col k) ≠ bc_R col k c := fun z => hne (bc_R_inj (by omega) _ _ h0 hc z).symm
    have : bc_pos col k c < bc_pos col k (col k) := bc_rk_mono hc (by omega)
    rw [if_pos this, e2', e1']
    simp [g]
/-- the row of letters after the first k -/
def bc_Row (col : Nat → Nat) (k : Nat) (rw' : Nat → Nat) : Prop := ∀ j, j < 6 → rw' j < 6 ∧ bc_pos col k (rw' j) = j
theorem bc_Row_0 {col r : Nat → Nat} (h : ∀ j, j < 6 → r j = j) : bc_Row col 0 r := by
  intro j hj
  rw [h j hj]
  refine ⟨hj, ?_⟩
  have : bc_pos col 0 j = bc_cnt (fun q => decide (q < j)) 6 := by
    apply bc_cnt_congr
    intro q _
    have e1 : bc_R col 0 q = 100 + q := rfl
    have e2 : bc_R col 0 j = 100 + j := rfl
    rw [e1, e2]
    by_cases z : q < j
    · have : 100 + q < 100 + j := by omega
      simp [z, this]
    · have : ¬ 100 + q < 100 + j := by omega
      simp [z, this]
  rw [this]
  exact bc_cnt_ltc (by omega)
theorem bc_Row_at {col r : Nat → Nat} {k c : Nat} (hk : k ≤ 50) (h : bc_Row col k r) (hc : c < 6) : r (bc_pos col k c) = c := by
  have h1 := h _ (bc_pos_lt (col := col) (k := k) hc)
  exact bc_pos_inj hk h1.1 hc h1.2
theorem bc_Row_s {col r r' : Nat → Nat} {k : Nat} (hk : k < 50) (h0 : col k < 6) (h : bc_Row col k r)
    (e0 : r' 0 = r (bc_pos col k (col k))) (e1 : ∀ j, j < bc_pos col k (col k) → r' (j + 1) = r j) (e2 : ∀ j, bc_pos col k (col k) < j → j < 6 → r' j = r j) : bc_Row col (k + 1) r' := by
  intro j hj
  have hp := bc_pos_lt (col := col) (k := k) h0
  by_cases z : j = 0
  · subst z
    rw [e0, bc_Row_at (by omega) h h0]
    exact ⟨h0, bc_pos_s0 hk⟩
  · by_cases g : j ≤ bc_pos col k (col k)
    · obtain ⟨i, rfl⟩ : ∃ i, j = i + 1 := ⟨j - 1, by omega⟩
      rw [e1 i (by omega)]
      obtain ⟨h1, h2⟩ := h i (by omega)
      refine ⟨h1, ?_⟩
      rw [bc_pos_s1 hk h0 h1 (fun e => by rw [e] at h2; omega), h2, if_pos (by omega)]
    · rw [e2 j (by omega) hj]
      obtain ⟨h1, h2⟩ := h j hj
      refine ⟨h1, ?_⟩
      rw [bc_pos_s1 hk h0 h1 (fun e => by rw [e] at h2; omega), h2, if_neg (by omega)]
/-! the rank as the law counts it -/
theorem bc_pos_f1 {col : Nat → Nat} {i k c : Nat} (hi : i ≤ 50) (h : bc_la col i c = k + 1) : bc_pos col i c = bc_cnt (fun d => decide (k + 1 < bc_la col i d)) 6 := by
  apply bc_cnt_congr
  intro d _
  have h1 := bc_la_le col i d
  have h2 := bc_la_le col i c
  have e : bc_R col i c = 100 - (k + 1) := by
    unfold bc_R
    rw [if_neg (by omega), h]
  rw [e]
  unfold bc_R
  by_cases z : bc_la col i d = 0
  · rw [if_pos z]
    exact decide_eq_decide.mpr (by omega)
  · rw [if_neg z]
    exact decide_eq_decide.mpr (by omega)
theorem bc_pos_f2 {col : Nat → Nat} {i c : Nat} (hi : i ≤ 50) (hc : c < 6) (h : bc_la col i c = 0) : bc_pos col i c = bc_cnt (fun d => decide (0 < bc_la col i d)) 6 + bc_cnt (fun d => decide (bc_la col i d = 0)) c := by
  have e : bc_R col i c = 100 + c := by
    unfold bc_R
    rw [if_pos h]
  have h1 : bc_pos col i c = bc_cnt (fun d => decide (0 < bc_la col i d)) 6 + bc_cnt (fun d => decide (bc_la col i d = 0) && decide (d < c)) 6 := by
    apply bc_cnt_or
    intro d hd
    have hl := bc_la_le col i d
    rw [e]
    unfold bc_R
    by_cases z : bc_la col i d = 0
    · rw [if_pos z]
      simp [z]
    · rw [if_neg z]
      have g1 : 0 < bc_la col i d := by omega
      have g2 : 100 - bc_la col i d < 100 + c := by omega
      simp [z, g1, g2]
  have h2 : bc_cnt (fun d => decide (bc_la col i d = 0) && decide (d < c)) 6 = bc_cnt (fun d => decide (bc_la col i d = 0)) c := by
    rw [show 6 = c + (6 - c) by omega, bc_cnt_add]
    rw [bc_cnt_none (P := fun j => decide (bc_la col i (c + j) = 0) && decide (c + j < c)) (fun j _ => by simp)]
    apply bc_cnt_congr
    intro d hd
    simp [hd]
  rw [h1, h2]
end
section
/-- a run of z zeros as symbols -/
def bc_bj : Nat → Nat → List Nat
  | 0, _ => []
  | f + 1, z => if z = 0 then [] else ((z + 1) % 2) :: bc_bj f ((z - 1) / 2)
theorem bc_bj_eq : ∀ (f g z : Nat), z ≤ f → z ≤ g → bc_bj f z = bc_bj g z := by
  intro f
  induction f with
  | zero =>
    intro g z h _
    have : z = 0 := by omega
    subst this
    cases g with
    | zero => rfl
    | succ g => rfl
  | succ f ih =>
    intro g z h h'
    cases g with
    | zero =>
      have : z = 0 := by omega
      subst this
      rfl
    | succ g =>
      show (if z = 0 then [] else ((z + 1) % 2) :: bc_bj f ((z - 1) / 2)) = (if z = 0 then [] else ((z + 1) % 2) :: bc_bj g ((z - 1) / 2))
      rw [ih g ((z - 1) / 2) (by omega) (by omega)]
def bc_bij (z : Nat) : List Nat := bc_bj z z
theorem bc_bij_0 : bc_bij 0 = [] := rfl
theorem bc_bij_s {z : Nat} (h : 0 < z) : bc_bij z = ((z + 1) % 2) :: bc_bij ((z - 1) / 2) := by
  obtain ⟨y, rfl⟩ : ∃ y, z = y + 1 := ⟨z - 1, by omega⟩
  unfold bc_bij
  show (if y + 1 = 0 then [] else ((y + 1 + 1) % 2) :: bc_bj y ((y + 1 - 1) / 2)) = _
  rw [if_neg (by omega), bc_bj_eq y ((y + 1 - 1) / 2) ((y + 1 - 1) / 2) (by omega) (by omega)]
theorem bc_bij_ind {P : Nat → Prop} (h0 : P 0) (hs : ∀ z, 0 < z → P ((z - 1) / 2) → P z) : ∀ z, P z := by
  intro z
  induction z using Nat.strongRecOn with
  | _ z ih =>
    by_cases e : z = 0
    · rw [e]
      exact h0
    · exact hs z (by omega) (ih ((z - 1) / 2) (by omega))
theorem bc_bij_len : ∀ z, (bc_bij z).length ≤ z := by
  apply bc_bij_ind
  · exact Nat.le_refl 0
  · intro z h ih
    rw [bc_bij_s h, List.length_cons]
    omega
theorem bc_bij_lt : ∀ z, ∀ s ∈ bc_bij z, s < 2 := by
  apply bc_bij_ind
  · intro s hs
    cases hs
  · intro z h ih s hs
    rw [bc_bij_s h] at hs
    rcases List.mem_cons.mp hs with e | e
    · omega
    · exact ih s e
/-- ranks to symbols: z zeros stand open -/
def bc_sy : Nat → List Nat → List Nat
  | z, [] => bc_bij z
  | z, r :: rs => if r = 0 then bc_sy (z + 1) rs else bc_bij z ++ (r + 1) :: bc_sy 0 rs
theorem bc_sy_nil (z : Nat) : bc_sy z [] = bc_bij z := by unfold bc_sy; rfl
theorem bc_sy_0 (z : Nat) (rs : List Nat) : bc_sy z (0 :: rs) = bc_sy (z + 1) rs := by
  rw [bc_sy, if_pos rfl]
theorem bc_sy_c {r : Nat} (z : Nat) (rs : List Nat) (h : r ≠ 0) : bc_sy z (r :: rs) = bc_bij z ++ (r + 1) :: bc_sy 0 rs := by
  rw [bc_sy, if_neg h]
theorem bc_sy_len (R : List Nat) : ∀ z, (bc_sy z R).length ≤ z + R.length := by
  induction R with
  | nil =>
    intro z
    rw [bc_sy_nil]
    exact bc_bij_len z
  | cons r rs ih =>
    intro z
    by_cases e : r = 0
    · subst e
      rw [bc_sy_0, List.length_cons]
      have := ih (z + 1)
      omega
    · rw [bc_sy_c z rs e, List.length_append, List.length_cons, List.length_cons]
      have := ih 0
      have := bc_bij_len z
      omega
theorem bc_sy_lt (R : List Nat) (hR : ∀ r ∈ R, r < 6) : ∀ z, ∀ s ∈ bc_sy z R, s < 7 := by
  induction R with
  | nil =>
    intro z s hs
    rw [bc_sy_nil] at hs
    have := bc_bij_lt z s hs
    omega
  | cons r rs ih =>
    intro z s hs
    have ih' := ih (fun r hr => hR r (List.mem_cons_of_mem _ hr))
    have hr := hR r List.mem_cons_self
    by_cases e : r = 0
    · subst e
      rw [bc_sy_0] at hs
      exact ih' _ s hs
    · rw [bc_sy_c z rs e] at hs
      rcases List.mem_append.mp hs with g | g
      · have := bc_bij_lt z s g
        omega
      · rcases List.mem_cons.mp g with g | g
        · omega
        · exact ih' 0 s g
/-- symbols to ranks -/
def bc_dc : Nat → List Nat → List Nat
  | _, [] => []
  | w, s :: ss => if 1 < s then (s - 1) :: bc_dc 1 ss else List.replicate (w * (s + 1)) 0 ++ bc_dc (w * 2) ss
theorem bc_dc_nil (w : Nat) : bc_dc w [] = [] := by unfold bc_dc; rfl
theorem bc_dc_hi {s : Nat} (w : Nat) (ss : List Nat) (h : 1 < s) : bc_dc w (s :: ss) = (s - 1) :: bc_dc 1 ss := by
  rw [bc_dc, if_pos h]
theorem bc_dc_lo {s : Nat} (w : Nat) (ss : List Nat) (h : ¬ 1 < s) : bc_dc w (s :: ss) = List.replicate (w * (s + 1)) 0 ++ bc_dc (w * 2) ss := by
  rw [bc_dc, if_neg h]
theorem bc_dc_bij : ∀ z w rest, (rest = [] ∨ ∃ s ss, rest = s :: ss ∧ 1 < s) → bc_dc w (bc_bij z ++ rest) = List.replicate (w * z) 0 ++ bc_dc 1 rest := by
  apply bc_bij_ind
  · intro w rest h
    rw [bc_bij_0, List.nil_append, Nat.mul_zero, List.replicate_zero, List.nil_append]
    rcases h with h | ⟨s, ss, h, hs⟩
    · rw [h, bc_dc_nil, bc_dc_nil]
    · rw [h, bc_dc_hi _ _ hs, bc_dc_hi _ _ hs]
  · intro z hz ih w rest h
    rw [bc_bij_s hz, List.cons_append, bc_dc_lo _ _ (by omega), ih _ _ h, ← List.append_assoc, List.replicate_append_replicate]
    have : w * ((z + 1) % 2 + 1) + w * 2 * ((z - 1) / 2) = w * z := by
      rw [Nat.mul_assoc, ← Nat.mul_add]
      congr 1
      omega
    rw [this]
theorem bc_dc_sy (R : List Nat) : ∀ z, bc_dc 1 (bc_sy z R) = List.replicate z 0 ++ R := by
  induction R with
  | nil =>
    intro z
    have := bc_dc_bij z 1 [] (Or.inl rfl)
    rw [List.append_nil, bc_dc_nil, Nat.one_mul] at this
    rw [bc_sy_nil, this]
  | cons r rs ih =>
    intro z
    by_cases e : r = 0
    · subst e
      rw [bc_sy_0, ih, List.replicate_succ', List.append_assoc]
      rfl
    · rw [bc_sy_c z rs e, bc_dc_bij _ _ _ (Or.inr ⟨r + 1, _, rfl, by omega⟩), bc_dc_hi _ _ (by omega), ih 0, Nat.one_mul]
      rfl
/-- m values of f from k on -/
def bc_ls (f : Nat → Nat) : Nat → Nat → List Nat
  | _, 0 => []
  | k, m + 1 => f k :: bc_ls f (k + 1) m
theorem bc_ls_s (f : Nat → Nat) (k m : Nat) : bc_ls f k (m + 1) = f k :: bc_ls f (k + 1) m := rfl
theorem bc_ls_len (f : Nat → Nat) (m : Nat) : ∀ k, (bc_ls f k m).length = m := by
  induction m with
  | zero => intro k; rfl
  | succ m ih =>
    intro k
    rw [bc_ls_s, List.length_cons, ih]
theorem bc_ls_mem {f : Nat → Nat} {m : Nat} : ∀ {k x : Nat}, x ∈ bc_ls f k m → ∃ j, j < m ∧ x = f (k + j) := by
  induction m with
  | zero => intro k x h; cases h
  | succ m ih =>
    intro k x h
    rw [bc_ls_s] at h
    rcases List.mem_cons.mp h with e | e
    · exact ⟨0, by omega, e⟩
    · obtain ⟨j, hj, e⟩ := ih e
      exact ⟨j + 1, by omega, by rw [e, show k + 1 + j = k + (j + 1) by omega]⟩
theorem bc_ls_congr {f g : Nat → Nat} {m : Nat} : ∀ {k : Nat}, (∀ j, k ≤ j → j < k + m → f j = g j) → bc_ls f k m = bc_ls g k m := by
  induction m with
  | zero => intro k _; rfl
  | succ m ih =>
    intro k h
    rw [bc_ls_s, bc_ls_s, h k (by omega) (by omega), ih (fun j h1 h2 => h j (by omega) (by omega))]
/-- zeros at the head -/
theorem bc_ls_zeros {f : Nat → Nat} {B : List Nat} (c : Nat) : ∀ (m k : Nat), bc_ls f k m = List.replicate c 0 ++ B → c ≤ m ∧ (∀ z, z < c → f (k + z) = 0) ∧ bc_ls f (k + c) (m - c) = B := by
  induction c with
  | zero =>
    intro m k h
    rw [List.replicate_zero, List.nil_append] at h
    exact ⟨Nat.zero_le m, fun z hz => absurd hz (by omega), h⟩
  | succ c ih =>
    intro m k h
    rw [List.replicate_succ, List.cons_append] at h
    cases m with
    | zero => cases h
    | succ m =>
      rw [bc_ls_s] at h
      injection h with h1 h2
      obtain ⟨a, b, d⟩ := ih m (k + 1) h2
      refine ⟨by omega, fun z hz => ?_, ?_⟩
      · by_cases e : z = 0
        · rw [e]
          exact h1
        · have := b (z - 1) (by omega)
          rw [show k + 1 + (z - 1) = k + z by omega] at this
          exact this
      · rw [show k + (c + 1) = k + 1 + c by omega, show m + 1 - (c + 1) = m - c by omega]
        exact d
end
section
/-- the weight of the codes ahead of bits b, symbol s -/
def bc_X (bt : Nat → Nat) (b s : Nat) : Nat := bc_sum (fun i => if 0 < bt i ∧ (bt i < b ∨ (bt i = b ∧ i < s)) then 2 ^ (7 - bt i) else 0) 7
theorem bc_X_1 (bt : Nat → Nat) : bc_X bt 1 0 = 0 := by
  apply bc_sum_zero
  intro i _
  rw [if_neg (by omega)]
theorem bc_X_7 (bt : Nat → Nat) (b : Nat) : bc_X bt b 7 = bc_X bt (b + 1) 0 := by
  apply bc_sum_congr
  intro i hi
  by_cases h : 0 < bt i ∧ (bt i < b ∨ (bt i = b ∧ i < 7))
  · rw [if_pos h, if_pos (by omega)]
  · rw [if_neg h, if_neg (by omega)]
theorem bc_X_eq {bt : Nat → Nat} {b s : Nat} (hb : 0 < b) (hs : s < 7) (h : bt s = b) : bc_X bt b (s + 1) = bc_X bt b s + 2 ^ (7 - b) := by
  apply bc_sum_point hs
  · intro i hi hne
    by_cases g : 0 < bt i ∧ (bt i < b ∨ (bt i = b ∧ i < s))
    · rw [if_pos g, if_pos (by omega)]
    · rw [if_neg g, if_neg (by omega)]
  · rw [if_pos (by omega), if_neg (by omega), h, Nat.zero_add]
theorem bc_X_ne {bt : Nat → Nat} {b s : Nat} (h : bt s ≠ b) : bc_X bt b (s + 1) = bc_X bt b s := by
  apply bc_sum_congr
  intro i hi
  by_cases g : 0 < bt i ∧ (bt i < b ∨ (bt i = b ∧ i < s))
  · rw [if_pos g, if_pos (by omega)]
  · rw [if_neg g]
    rw [if_neg]
    intro z
    apply g
    refine ⟨z.1, ?_⟩
    rcases z.2 with y | ⟨y, y2⟩
    · exact Or.inl y
    · by_cases e : i = s
      · subst e
        exact absurd y h
      · exact Or.inr ⟨y, by omega⟩
/-- the codes answer: as long as they ought to be, and no one begins another -/
def bc_pc (bt cd : Nat → Nat) : Prop := (∀ s, s < 7 → 0 < bt s → bt s ≤ 7 ∧ cd s < 2 ^ bt s) ∧ (∀ s s', s < 7 → s' < 7 → s ≠ s' → 0 < bt s' → bt s' ≤ bt s → cd s' ≠ cd s / 2 ^ (bt s - bt s'))
theorem bc_pc_of {bt cd : Nat → Nat} (hb : ∀ s, s < 7 → bt s ≤ 7) (hk : bc_sum (fun s => if 0 < bt s then 2 ^ (7 - bt s) else 0) 7 ≤ 128)
    (hc : ∀ s, s < 7 → 0 < bt s → cd s * 2 ^ (7 - bt s) = bc_X bt (bt s) s) : bc_pc bt cd := by
  have hn : ∀ s, s < 7 → 0 < bt s → (cd s + 1) * 2 ^ (7 - bt s) = bc_X bt (bt s) (s + 1) := by
    intro s hs h0
    rw [bc_X_eq h0 hs rfl, ← hc s hs h0, Nat.succ_mul]
  have hmono : ∀ b s b' s', (b < b' ∨ (b = b' ∧ s ≤ s')) → bc_X bt b s ≤ bc_X bt b' s' := by
    intro b s b' s' h
    apply bc_sum_mono
    intro i _
    by_cases g : 0 < bt i ∧ (bt i < b ∨ (bt i = b ∧ i < s))
    · rw [if_pos g, if_pos (by omega)]
      exact Nat.le_refl _
    · rw [if_neg g]
      exact Nat.zero_le _
  have hmono' : ∀ s s', s < 7 → s' < 7 → 0 < bt s' → (bt s' < bt s ∨ (bt s' = bt s ∧ s' < s)) → bc_X bt (bt s') (s' + 1) ≤ bc_X bt (bt s) s := by
    intro s s' hs hs' h0 h
    exact hmono _ _ _ _ (by omega)
  refine ⟨fun s hs h0 => ⟨hb s hs, ?_⟩, fun s s' hs hs' hne h0 hle => ?_⟩
  · have h1 := hn s hs h0
    have h2 : bc_X bt (bt s) (s + 1) ≤ bc_sum (fun s => if 0 < bt s then 2 ^ (7 - bt s) else 0) 7 := by
      apply bc_sum_mono
      intro i _
      by_cases g : 0 < bt i ∧ (bt i < bt s ∨ (bt i = bt s ∧ i < s + 1))
      · rw [if_pos g, if_pos g.1]
        exact Nat.le_refl _
      · rw [if_neg g]
        exact Nat.zero_le _
    have h3 : (128 : Nat) = 2 ^ bt s * 2 ^ (7 - bt s) := by
      rw [← Nat.pow_add, show bt s + (7 - bt s) = 7 by have := hb s hs; omega]
    have h4 : (cd s + 1) * 2 ^ (7 - bt s) ≤ 2 ^ bt s * 2 ^ (7 - bt s) := by omega
    exact Nat.le_of_mul_le_mul_right h4 (Nat.two_pow_pos _)
  · by_cases hbe : bt s' < bt s ∨ (bt s' = bt s ∧ s' < s)
    · have h1 := hmono' s s' hs hs' h0 hbe
      rw [← hn s' hs' h0, ← hc s hs (by omega)] at h1
      have h2 : 2 ^ (7 - bt s') = 2 ^ (bt s - bt s') * 2 ^ (7 - bt s) := by
        rw [← Nat.pow_add]
        congr 1
        have := hb s hs
        omega
      rw [h2, ← Nat.mul_assoc] at h1
      have h3 := Nat.le_of_mul_le_mul_right h1 (Nat.two_pow_pos _)
      have h4 := (Nat.le_div_iff_mul_le (Nat.two_pow_pos (bt s - bt s'))).mpr h3
      omega
    · have e : bt s' = bt s := by omega
      have h1 := hmono' s' s hs' hs (by omega) (Or.inr ⟨e.symm, by omega⟩)
      rw [← hn s hs (by omega), ← hc s' hs' h0, e] at h1
      have h3 := Nat.le_of_mul_le_mul_right h1 (Nat.two_pow_pos _)
      rw [e, Nat.sub_self, Nat.pow_zero, Nat.div_one]
      omega
/-- where the k-th symbol's bits begin -/
def bc_ps (bt L : Nat → Nat) : Nat → Nat
  | 0 => 0
  | k + 1 => bc_ps bt L k + bt (L k)
theorem bc_ps_s (bt L : Nat → Nat) (k : Nat) : bc_ps bt L (k + 1) = bc_ps bt L k + bt (L k) := rfl
theorem bc_ps_le {bt L : Nat → Nat} {k : Nat} (h : ∀ i, i < k → bt (L i) ≤ 7) : bc_ps bt L k ≤ 7 * k := by
  induction k with
  | zero => exact Nat.le_refl 0
  | succ k ih =>
    have h1 := ih (fun i hi => h i (by omega))
    have h2 := h k (by omega)
    rw [bc_ps_s]
    omega
theorem bc_ps_mono {bt L : Nat → Nat} {k m : Nat} (h : k ≤ m) : bc_ps bt L k ≤ bc_ps bt L m := by
  obtain ⟨d, rfl⟩ : ∃ d, m = k + d := ⟨m - k, by omega⟩
  clear h
  induction d with
  | zero => exact Nat.le_refl _
  | succ d ih =>
    rw [← Nat.add_assoc, bc_ps_s]
    omega
/-- what is read so far of a code, and the next bit -/
theorem bc_read (c b j : Nat) (hj : j < b) : 2 * (c / 2 ^ (b - j)) + (if c.testBit (b - 1 - j) then 1 else 0) = c / 2 ^ (b - (j + 1)) := by
  have h1 : b - j = (b - 1 - j) + 1 := by omega
  have h2 : b - (j + 1) = b - 1 - j := by omega
  rw [h1, h2, Nat.pow_succ, ← Nat.div_div_eq_div_mul, Nat.testBit_eq_decide_div_mod_eq]
  have h3 : c / 2 ^ (b - 1 - j) % 2 = 0 ∨ c / 2 ^ (b - 1 - j) % 2 = 1 := by omega
  rcases h3 with h3 | h3
  · simp [h3]
    omega
  · simp [h3]
    omega
end
section
/-- an array by its numbers -/
def bc_I (o : Nat → Nat) : Nat → Int32 := fun j => nI (o j)
def bc_up (o : Nat → Nat) (k x : Nat) : Nat → Nat := fun j => if j = k then x else o j
theorem bc_up_s {o : Nat → Nat} {k x : Nat} : bc_up o k x k = x := if_pos rfl
theorem bc_up_n {o : Nat → Nat} {k x j : Nat} (h : j ≠ k) : bc_up o k x j = o j := if_neg h
theorem bc_up_id (o : Nat → Nat) (k : Nat) : bc_up o k (o k) = o := by
  funext j
  unfold bc_up
  split
  · rename_i h
    rw [h]
  · rfl
theorem bc_upd (o : Nat → Nat) (k x : Nat) : upd (bc_I o) k (nI x) = bc_I (bc_up o k x) := by
  funext j
  unfold upd bc_I bc_up
  split <;> rfl
theorem bc_of1 (x : Int32) : x = nI x.toBitVec.toNat := by
  apply Int32.toBitVec_inj.mp
  apply BitVec.eq_of_toNat_eq
  rw [pk_tn x.toBitVec.isLt]
theorem bc_of (a : Nat → Int32) : ∃ o, a = bc_I o := ⟨fun j => (a j).toBitVec.toNat, funext (fun j => bc_of1 (a j))⟩
theorem bc_rd {o : Nat → Nat} {k : Nat} (h : k < 2 ^ 31) : bc_I o (nI k).toNatClampNeg = nI (o k) := by
  rw [nI_clamp h]
  rfl
theorem bc_nb0 : ∀ v, v < 128 → (nI v).toInt8.toInt32 = nI v := by decide +kernel
theorem bc_nb {v : Nat} (h : v < 128) : (nI v).toInt8.toInt32 = nI v := bc_nb0 v h
theorem bc_vn {v : Nat} (h : v < 128) : vp_nar .byte (nI v) = nI v := by rw [vp_nar_byte, bc_nb h]
/-- stores -/
theorem bc_st {o : Nat → Nat} {k x : Nat} {i v : Int32} (hi : i = nI k) (hv : v = nI x) (hk : k < 2 ^ 31) : upd (bc_I o) i.toNatClampNeg v = bc_I (bc_up o k x) := by
  rw [hi, hv, nI_clamp hk, bc_upd]
theorem bc_st8 {o : Nat → Nat} {k x : Nat} {i v : Int32} (hi : i = nI k) (hv : v = nI x) (hk : k < 2 ^ 31) (hx : x < 128) : upd (bc_I o) i.toNatClampNeg v.toInt8.toInt32 = bc_I (bc_up o k x) := by
  rw [hi, hv, nI_clamp hk, bc_nb hx, bc_upd]
theorem bc_stn {o : Nat → Nat} {k x : Nat} {i v : Int32} (hi : i = nI k) (hv : v = nI x) (hk : k < 2 ^ 31) (hx : x < 128) : upd (bc_I o) i.toNatClampNeg (vp_nar .byte v) = bc_I (bc_up o k x) := by
  rw [hi, hv, nI_clamp hk, bc_vn hx, bc_upd]
theorem bc_m1 {k : Nat} (h : 0 < k) : nI k + (-1) = nI (k - 1) := by
  obtain ⟨j, rfl⟩ : ∃ j, k = j + 1 := ⟨k - 1, by omega⟩
  exact pk_m1 j
theorem bc_s1 {k : Nat} (h : 0 < k) : nI k - 1 = nI (k - 1) := by
  obtain ⟨j, rfl⟩ : ∃ j, k = j + 1 := ⟨k - 1, by omega⟩
  exact nI_pred j
theorem bc_sub_pos {x y : Nat} (hx : x < 64) (hy : y < 64) : 0 < nI x - nI y ↔ y < x := by
  rw [Int32.lt_iff_toInt_lt, pk_sub_toInt (by omega) (by omega), show (0 : Int32).toInt = 0 from by decide]
  omega
theorem bc_sub_zero {x y : Nat} (hx : x < 64) (hy : y < 64) : nI x - nI y = 0 ↔ x = y := by
  constructor
  · intro h
    have h1 := pk_sub_toInt (a := x) (b := y) (by omega) (by omega)
    rw [h, show (0 : Int32).toInt = 0 from by decide] at h1
    omega
  · intro h
    subst h
    have h1 : nI x - nI x = nI (x - x) := pk_sub (Nat.le_refl x)
    rw [h1, Nat.sub_self]
    rfl
end
section
section
variable {post : St2 → Prop} {f0 f1 f2 f3 f4 : Int32} {a1 a2 a3 a4 a5 a6 a7 a8 a9 a10 a11 a12 : Nat → Int32} {a13 : Nat → Int64} {a14 a15 : Nat → Int32}
def bc_Gr (T : Nat → Nat) (r p : Nat) : Nat := bc_K T r p * 64 + p
/-- c orders the rotations as their first r letters do -/
def bc_rel (T : Nat → Nat) (n r : Nat) (c : Nat → Nat) : Prop := (∀ p, p < n → c p < 64) ∧ ∀ p q, p < n → q < n → (c p < c q ↔ bc_K T r p < bc_K T r q)
theorem bc_cmp {T c : Nat → Nat} {n r p q x y : Nat} (h6 : ∀ i, T i < 6) (hT : ∀ i, T (i + n) = T i) (hc : bc_rel T n r c) (hp : p < n) (hq : q < n)
    (h : (c p ≠ c q ∧ x = c p ∧ y = c q) ∨ (c p = c q ∧ x = c ((p + r) % n) ∧ y = c ((q + r) % n))) :
    (y < x ↔ bc_K T (r + r) q < bc_K T (r + r) p) ∧ (x < y ↔ bc_K T (r + r) p < bc_K T (r + r) q) := by
  have a1 := hc.2 p q hp hq
  have a2 := hc.2 q p hq hp
  have mp : (p + r) % n < n := Nat.mod_lt _ (by omega)
  have mq : (q + r) % n < n := Nat.mod_lt _ (by omega)
  have b1 := hc.2 _ _ mp mq
  have b2 := hc.2 _ _ mq mp
  rw [bc_K_mod hT, bc_K_mod hT] at b1 b2
  have d1 := bc_K_dbl h6 r r p q
  have d2 := bc_K_dbl h6 r r q p
  rcases h with ⟨hne, rfl, rfl⟩ | ⟨he, rfl, rfl⟩
  · rw [d1, d2]
    omega
  · rw [d1, d2]
    omega
theorem bc_compare {post : Int32 → Prop} {T c : Nat → Nat} {n r p q : Nat} (hn : n ≤ 32) (h6 : ∀ i, T i < 6) (hT : ∀ i, T (i + n) = T i) (hc : bc_rel T n r c) (hp : p < n) (hq : q < n) (hr : r ≤ 32)
    (H : ∀ z : Int32, (0 < z ↔ bc_K T (r + r) q < bc_K T (r + r) p) → (z = 0 ↔ bc_K T (r + r) p = bc_K T (r + r) q) → post z) :
    wpX_compare post (nI n, f1, f2, f3, f4, a1, a2, bc_I c, a4, a5, a6, a7, a8, a9, a10, a11, a12, a13, a14, a15) (nI p) (nI q) (nI r) := by
  have mp : (p + r) % n < n := Nat.mod_lt _ (by omega)
  have mq : (q + r) % n < n := Nat.mod_lt _ (by omega)
  have e1 : nI p + nI r - (nI p + nI r) / nI n * nI n = nI ((p + r) % n) := by rw [nI_add, pk_rem (by omega) (by omega) (by omega)]
  have e2 : nI q + nI r - (nI q + nI r) / nI n * nI n = nI ((q + r) % n) := by rw [nI_add, pk_rem (by omega) (by omega) (by omega)]
  have F : ∀ x y, ((c p ≠ c q ∧ x = c p ∧ y = c q) ∨ (c p = c q ∧ x = c ((p + r) % n) ∧ y = c ((q + r) % n))) → post (nI x - nI y) := by
    intro x y h
    have hx : x < 64 ∧ y < 64 := by
      rcases h with ⟨_, rfl, rfl⟩ | ⟨_, rfl, rfl⟩
      · exact ⟨hc.1 _ hp, hc.1 _ hq⟩
      · exact ⟨hc.1 _ mp, hc.1 _ mq⟩
    have g := bc_cmp h6 hT hc hp hq h
    refine H _ ?_ ?_
    · rw [bc_sub_pos hx.1 hx.2]
      exact g.1
    · rw [bc_sub_zero hx.1 hx.2]
      omega
  unfold wpX_compare
  dsimp only
  rw [e1, e2, bc_rd (show p < 2 ^ 31 by omega), bc_rd (show q < 2 ^ 31 by omega), bc_rd (show (p + r) % n < 2 ^ 31 by omega), bc_rd (show (q + r) % n < 2 ^ 31 by omega)]
  have cp := hc.1 _ hp
  have cq := hc.1 _ hq
  exact ⟨pk_in p 32 (by omega), pk_in q 32 (by omega), pk_eq (c p) (c q)
    (fun h => ⟨nI_ne0 (by omega) (by omega), pk_in ((p + r) % n) 32 (by omega), nI_ne0 (by omega) (by omega), pk_in ((q + r) % n) 32 (by omega), F _ _ (Or.inr ⟨h, rfl, rfl⟩)⟩)
    (fun h => ⟨pk_in p 32 (by omega), pk_in q 32 (by omega), F _ _ (Or.inl ⟨h, rfl, rfl⟩)⟩)⟩
theorem bc_after {post : Int32 → Prop} {T c : Nat → Nat} {n r p q : Nat} (hn : n ≤ 32) (h6 : ∀ i, T i < 6) (hT : ∀ i, T (i + n) = T i) (hc : bc_rel T n r c) (hp : p < n) (hq : q < n) (hr : r ≤ 32)
    (H1 : bc_Gr T (r + r) q < bc_Gr T (r + r) p → post 1) (H0 : ¬ bc_Gr T (r + r) q < bc_Gr T (r + r) p → post 0) :
    wpX_comesAfter post (nI n, f1, f2, f3, f4, a1, a2, bc_I c, a4, a5, a6, a7, a8, a9, a10, a11, a12, a13, a14, a15) (nI p) (nI q) (nI r) := by
  have hG : bc_Gr T (r + r) q < bc_Gr T (r + r) p ↔ _ := bc_lexlt (m := 64) (by omega) (by omega)
  unfold wpX_comesAfter
  dsimp only
  refine bc_compare hn h6 hT hc hp hq hr (fun z h1 h2 => ?_)
  refine br_c (fun g => H1 (hG.mpr (Or.inl (h1.mp g)))) (fun g => ?_)
  refine br_c (fun e => ?_) (fun e => H0 (fun w => ?_))
  · refine pk_le p q (fun le => H0 (fun w => ?_)) (fun lt => H1 (hG.mpr (Or.inr ⟨(h2.mp e).symm, lt⟩)))
    rcases hG.mp w with w | ⟨_, w⟩
    · exact g (h1.mpr w)
    · omega
  · rcases hG.mp w with w | ⟨w, _⟩
    · exact g (h1.mpr w)
    · exact e (h2.mpr w.symm)
/-- all n different numbers below n; the first m sorted -/
def bc_so (G : Nat → Nat) (n m : Nat) (o : Nat → Nat) : Prop := (∀ j, j < n → o j < n) ∧ (∀ i j, i < n → j < n → o i = o j → i = j) ∧ (∀ i j, i < j → j < m → G (o i) < G (o j))
/-- p is lifted out, its place k stands empty -/
def bc_hole (G : Nat → Nat) (n i p k : Nat) (o : Nat → Nat) : Prop := k ≤ i ∧ (∀ j, j < n → bc_up o k p j < n) ∧ (∀ x y, x < n → y < n → bc_up o k p x = bc_up o k p y → x = y) ∧ (∀ x y, x < y → y ≤ i → x ≠ k → y ≠ k → G (o x) < G (o y)) ∧ (∀ y, k < y → y ≤ i → G p < G (o y))
theorem bc_hole_0 {G o : Nat → Nat} {n i : Nat} (h : bc_so G n i o) : bc_hole G n i (o i) i o := by
  refine ⟨Nat.le_refl i, ?_, ?_, ?_, ?_⟩
  · rw [bc_up_id]
    exact h.1
  · rw [bc_up_id]
    exact h.2.1
  · intro x y a b c d
    exact h.2.2 x y a (by omega)
  · intro y a b
    omega
theorem bc_hole_end {G o : Nat → Nat} {n i p k : Nat} (hi : i < n) (hG : ∀ i j, i < n → j < n → G i = G j → i = j) (h : bc_hole G n i p k o) (hk : k = 0 ∨ ¬ G p < G (o (k - 1))) : bc_so G n (i + 1) (bc_up o k p) := by
  obtain ⟨h0, h1, h2, h3, h4⟩ := h
  refine ⟨h1, h2, fun x y a b => ?_⟩
  by_cases ex : x = k
  · subst ex
    rw [bc_up_s, bc_up_n (by omega)]
    exact h4 y (by omega) (by omega)
  · by_cases ey : y = k
    · subst ey
      rw [bc_up_s, bc_up_n ex]
      have hlast : G (o (y - 1)) < G p := by
        rcases hk with hk | hk
        · omega
        · have b1 := h1 (y - 1) (by omega)
          have b2 := h1 y (by omega)
          rw [bc_up_s] at b2
          rw [bc_up_n (by omega)] at b1
          have hne : G (o (y - 1)) ≠ G p := by
            intro e
            have e2 := hG _ _ b1 b2 e
            have e3 := h2 (y - 1) y (by omega) (by omega) (by rw [bc_up_s, bc_up_n (by omega)]; exact e2)
            omega
          omega
      by_cases e : x = y - 1
      · rw [e]
        exact hlast
      · have := h3 x (y - 1) (by omega) (by omega) (by omega) (by omega)
        omega
    · rw [bc_up_n ex, bc_up_n ey]
      exact h3 x y a (by omega) ex ey
theorem bc_hole_s {G o : Nat → Nat} {n i p k : Nat} (hi : i < n) (h : bc_hole G n i p k o) (hk : 0 < k) (hg : G p < G (o (k - 1))) : bc_hole G n i p (k - 1) (bc_up o k (o (k - 1))) := by
  obtain ⟨h0, h1, h2, h3, h4⟩ := h
  have E : ∀ j, bc_up (bc_up o k (o (k - 1))) (k - 1) p j = bc_up o k p (if j = k then k - 1 else if j = k - 1 then k else j) := by
    intro j
    by_cases e1 : j = k - 1
    · rw [if_neg (by omega), if_pos e1, bc_up_s, e1, bc_up_s]
    · rw [bc_up_n e1]
      by_cases e2 : j = k
      · rw [if_pos e2, e2, bc_up_s, bc_up_n (by omega)]
      · rw [if_neg e2, if_neg e1, bc_up_n e2, bc_up_n e2]
  have S : ∀ j, j < n → (if j = k then k - 1 else if j = k - 1 then k else j) < n := by
    intro j hj
    split
    · omega
    · split <;> omega
  refine ⟨by omega, ?_, ?_, ?_, ?_⟩
  · intro j hj
    rw [E]
    exact h1 _ (S j hj)
  · intro x y hx hy e
    rw [E, E] at e
    have := h2 _ _ (S x hx) (S y hy) e
    by_cases e1 : x = k
    · by_cases e2 : y = k
      · omega
      · rw [if_pos e1, if_neg e2] at this
        by_cases e3 : y = k - 1
        · rw [if_pos e3] at this
          omega
        · rw [if_neg e3] at this
          omega
    · rw [if_neg e1] at this
      by_cases e2 : y = k
      · rw [if_pos e2] at this
        by_cases e3 : x = k - 1
        · rw [if_pos e3] at this
          omega
        · rw [if_neg e3] at this
          omega
      · rw [if_neg e2] at this
        by_cases e3 : x = k - 1
        · rw [if_pos e3] at this
          by_cases e4 : y = k - 1
          · omega
          · rw [if_neg e4] at this
            omega
        · rw [if_neg e3] at this
          by_cases e4 : y = k - 1
          · rw [if_pos e4] at this
            omega
          · rw [if_neg e4] at this
            exact this
  · intro x y a b c d
    by_cases ex : x = k
    · subst ex
      rw [bc_up_s, bc_up_n (by omega)]
      exact h3 (x - 1) y (by omega) b (by omega) (by omega)
    · by_cases ey : y = k
      · subst ey
        rw [bc_up_s, bc_up_n ex]
        exact h3 x (y - 1) (by omega) (by omega) ex (by omega)
      · rw [bc_up_n ex, bc_up_n ey]
        exact h3 x y a b ex ey
  · intro y a b
    by_cases ey : y = k
    · subst ey
      rw [bc_up_s]
      exact hg
    · rw [bc_up_n ey]
      exact h4 y (by omega) b
theorem bc_Gr_inj {T : Nat → Nat} {n r : Nat} (hn : n ≤ 64) : ∀ i j, i < n → j < n → bc_Gr T r i = bc_Gr T r j → i = j := by
  intro i j hi hj h
  exact (bc_lexeq (m := 64) (by omega) (by omega) h).2
theorem bc_sink10 {T c : Nat → Nat} {n r p i : Nat} (hn : n ≤ 32) (h6 : ∀ i, T i < 6) (hT : ∀ i, T (i + n) = T i) (hc : bc_rel T n r c) (hi : i < n) (hp : p < n) (hr : r ≤ 32)
    (H : ∀ o, bc_so (bc_Gr T (r + r)) n (i + 1) o → post (nI n, f1, f2, f3, f4, a1, bc_I o, bc_I c, a4, a5, a6, a7, a8, a9, a10, a11, a12, a13, a14, a15)) :
    ∀ (m k : Nat) (o : Nat → Nat), k < m → bc_hole (bc_Gr T (r + r)) n i p k o → wX_sink_10 post (nI r) (nI p) (nI n) f1 f2 f3 f4 m (nI k) a1 (bc_I o) (bc_I c) a4 a5 a6 a7 a8 a9 a10 a11 a12 a13 a14 a15 := by
  intro m
  induction m with
  | zero => intro k o h; omega
  | succ m ih =>
    intro k o hkm hh
    have hki := hh.1
    have fin : (k = 0 ∨ ¬ bc_Gr T (r + r) p < bc_Gr T (r + r) (o (k - 1))) → ∀ x, x = upd (bc_I o) (nI k).toNatClampNeg (vp_nar .byte (nI p)) → post (nI n, f1, f2, f3, f4, a1, x, bc_I c, a4, a5, a6, a7, a8, a9, a10, a11, a12, a13, a14, a15) := by
      intro hk
      exact nm_r (bc_stn rfl rfl (by omega) (by omega)) (H _ (bc_hole_end hi (bc_Gr_inj (by omega)) hh hk))
    refine pk_le k 0 (fun z => ⟨pk_in k 32 (by omega), fin (Or.inl (by omega))⟩) (fun z => ?_)
    rw [bc_s1 z, bc_rd (show k - 1 < 2 ^ 31 by omega)]
    have ho : o (k - 1) < n := by
      have := hh.2.1 (k - 1) (by omega)
      rw [bc_up_n (by omega)] at this
      exact this
    refine ⟨pk_in (k - 1) 32 (by omega), bc_after hn h6 hT hc ho hp hr (fun g => ?_) (fun g => ?_)⟩
    · refine br_f (by decide) ⟨pk_in (k - 1) 32 (by omega), pk_in k 32 (by omega), nm_r (bc_stn (x := o (k - 1)) rfl rfl (by omega) (by omega)) (nm_r (bc_m1 z) ?_)⟩
      exact ih (k - 1) _ (by omega) (bc_hole_s hi hh z g)
    · exact br_t rfl ⟨pk_in k 32 (by omega), fin (Or.inr g)⟩
theorem bc_sink {T c o : Nat → Nat} {n r i : Nat} (hn : n ≤ 32) (h6 : ∀ i, T i < 6) (hT : ∀ i, T (i + n) = T i) (hc : bc_rel T n r c) (hi : i < n) (hr : r ≤ 32) (ho : bc_so (bc_Gr T (r + r)) n i o)
    (H : ∀ o, bc_so (bc_Gr T (r + r)) n (i + 1) o → post (nI n, f1, f2, f3, f4, a1, bc_I o, bc_I c, a4, a5, a6, a7, a8, a9, a10, a11, a12, a13, a14, a15)) :
    wpX_sink post (nI n, f1, f2, f3, f4, a1, bc_I o, bc_I c, a4, a5, a6, a7, a8, a9, a10, a11, a12, a13, a14, a15) (nI i) (nI r) :=
  ⟨pk_in i 32 (by omega), nm_r (bc_rd (by omega)) ⟨i + 1, bc_sink10 hn h6 hT hc hi (ho.1 i hi) hr H (i + 1) i o (by omega) (bc_hole_0 ho)⟩⟩
end
end
section
section
variable {post : St2 → Prop} {f0 f1 f2 f3 f4 : Int32} {a1 a2 a3 a4 a5 a6 a7 a8 a9 a10 a11 a12 : Nat → Int32} {a13 : Nat → Int64} {a14 a15 : Nat → Int32}
theorem bc_x2 (r : Nat) : nI r * 2 = nI (r + r) := by rw [show (2 : Int32) = nI 2 from rfl, pk_mul, Nat.mul_two]
theorem bc_fill {f c : Nat → Nat} {i : Nat} (h : ∀ j, j < i → c j = f j) : ∀ j, j < i + 1 → bc_up c i (f i) j = f j := by
  intro j hj
  by_cases e : j = i
  · rw [e, bc_up_s]
  · rw [bc_up_n e]
    exact h j (by omega)
theorem bc_s128 {J : Int32 → Int32 → Int32 → Int32 → Int32 → Int32 → (Nat → Int32) → (Nat → Int32) → (Nat → Int32) → (Nat → Int32) → (Nat → Int32) → (Nat → Int32) → (Nat → Int32) → (Nat → Int32) → (Nat → Int32) → (Nat → Int32) → (Nat → Int32) → (Nat → Int32) → (Nat → Int64) → (Nat → Int32) → (Nat → Int32) → Prop} {nc : Nat → Nat} {n r : Nat} (hn : n ≤ 32) (hc : ∀ j, j < n → nc j < 64)
    (H : ∀ c, (∀ j, j < n → c j = nc j) → J (nI (r + r)) (nI n) f1 f2 f3 f4 a1 a2 (bc_I c) (bc_I nc) a5 a6 a7 a8 a9 a10 a11 a12 a13 a14 a15) :
    ∀ (m i : Nat) (c : Nat → Nat), n - i < m → i ≤ n → (∀ j, j < i → c j = nc j) → wX_sortRotations_128 post J (nI r) (nI n) f1 f2 f3 f4 m (nI i) a1 a2 (bc_I c) (bc_I nc) a5 a6 a7 a8 a9 a10 a11 a12 a13 a14 a15 := by
  intro m
  induction m with
  | zero => intro i c h; omega
  | succ m ih =>
    intro i c h hin hh
    refine pk_le n i (fun y => nm_r (bc_x2 r) (H c (fun j hj => hh j (by omega)))) (fun y => ⟨pk_in i 32 (by omega), pk_in i 32 (by omega), ?_⟩)
    have hcn := hc i (by omega)
    rw [bc_rd (show i < 2 ^ 31 by omega)]
    exact nm_r (bc_stn rfl rfl (by omega) (by omega)) (nm_r (nI_1 i) (ih (i + 1) _ (by omega) (by omega) (bc_fill hh)))
/-- the number of changes up to place j -/
def bc_ec (K o : Nat → Nat) : Nat → Nat
  | 0 => 0
  | j + 1 => bc_ec K o j + (if K (o j) = K (o (j + 1)) then 0 else 1)
theorem bc_ec_s (K o : Nat → Nat) (j : Nat) : bc_ec K o (j + 1) = bc_ec K o j + (if K (o j) = K (o (j + 1)) then 0 else 1) := rfl
theorem bc_ec_le (K o : Nat → Nat) (j : Nat) : bc_ec K o j ≤ j := by
  induction j with
  | zero => exact Nat.le_refl 0
  | succ j ih =>
    rw [bc_ec_s]
    split <;> omega
theorem bc_ec_iff {K o : Nat → Nat} {n : Nat} (hb : ∀ j, j < n → o j < 64) (hs : ∀ i j, i < j → j < n → K (o i) * 64 + o i < K (o j) * 64 + o j) (i d : Nat) (h : i + d < n) :
    bc_ec K o i ≤ bc_ec K o (i + d) ∧ K (o i) ≤ K (o (i + d)) ∧ (bc_ec K o i = bc_ec K o (i + d) ↔ K (o i) = K (o (i + d))) := by
  induction d with
  | zero => exact ⟨Nat.le_refl _, Nat.le_refl _, Iff.intro (fun _ => rfl) (fun _ => rfl)⟩
  | succ d ih =>
    obtain ⟨h1, h2, h3⟩ := ih (by omega)
    have g := hs (i + d) (i + d + 1) (by omega) (by omega)
    rw [bc_lexlt (hb _ (by omega)) (hb _ (by omega))] at g
    rw [show i + (d + 1) = i + d + 1 by omega, bc_ec_s]
    split <;> omega
theorem bc_ec_rel {T o nc : Nat → Nat} {n r : Nat} (hn : n ≤ 32) (ho : bc_so (bc_Gr T r) n n o) (hc : ∀ j, j < n → nc (o j) = bc_ec (bc_K T r) o j) : bc_rel T n r nc := by
  have hb : ∀ j, j < n → o j < 64 := fun j hj => by have := ho.1 j hj; omega
  have hs : ∀ i j, i < j → j < n → bc_K T r (o i) * 64 + o i < bc_K T r (o j) * 64 + o j := fun i j a b => ho.2.2 i j a b
  refine ⟨fun p hp => ?_, fun p q hp hq => ?_⟩
  · obtain ⟨i, hi, rfl⟩ := bc_surj ho.1 ho.2.1 hp
    rw [hc i hi]
    have := bc_ec_le (bc_K T r) o i
    omega
  · obtain ⟨i, hi, rfl⟩ := bc_surj ho.1 ho.2.1 hp
    obtain ⟨j, hj, rfl⟩ := bc_surj ho.1 ho.2.1 hq
    rw [hc i hi, hc j hj]
    rcases Nat.le_total i j with h | h
    · have g := bc_ec_iff hb hs i (j - i) (by omega)
      rw [show i + (j - i) = j by omega] at g
      omega
    · have g := bc_ec_iff hb hs j (i - j) (by omega)
      rw [show j + (i - j) = i by omega] at g
      omega
theorem bc_s107 {J : Int32 → Int32 → Int32 → Int32 → Int32 → Int32 → (Nat → Int32) → (Nat → Int32) → (Nat → Int32) → (Nat → Int32) → (Nat → Int32) → (Nat → Int32) → (Nat → Int32) → (Nat → Int32) → (Nat → Int32) → (Nat → Int32) → (Nat → Int32) → (Nat → Int32) → (Nat → Int64) → (Nat → Int32) → (Nat → Int32) → Prop} {J7 : Int32 → Int32 → (Nat → Int32) → (Nat → Int32) → (Nat → Int32) → (Nat → Int32) → (Nat → Int32) → (Nat → Int32) → (Nat → Int32) → (Nat → Int32) → (Nat → Int32) → (Nat → Int32) → (Nat → Int32) → (Nat → Int32) → (Nat → Int64) → (Nat → Int32) → (Nat → Int32) → Prop} {o nc : Nat → Nat} {x1 : Int32} {i v : Nat} (hi : i < 32) (ho : o i < 32) (hv : v < 128)
    (H : J7 (nI v) (nI (i + 1)) a1 (bc_I o) a3 (bc_I (bc_up nc (o i) v)) a5 a6 a7 a8 a9 a10 a11 a12 a13 a14 a15) : wX_sortRotations_107 post J J7 x1 (nI v) (nI i) f0 f1 f2 f3 f4 a1 (bc_I o) a3 (bc_I nc) a5 a6 a7 a8 a9 a10 a11 a12 a13 a14 a15 := by
  unfold wX_sortRotations_107
  rw [bc_rd (show i < 2 ^ 31 by omega)]
  exact ⟨pk_in i 32 hi, pk_in (o i) 32 ho, nm_r (bc_st8 rfl rfl (by omega) hv) (nm_r (nI_1 i) H)⟩
theorem bc_s70 {J : Int32 → Int32 → Int32 → Int32 → Int32 → Int32 → (Nat → Int32) → (Nat → Int32) → (Nat → Int32) → (Nat → Int32) → (Nat → Int32) → (Nat → Int32) → (Nat → Int32) → (Nat → Int32) → (Nat → Int32) → (Nat → Int32) → (Nat → Int32) → (Nat → Int32) → (Nat → Int64) → (Nat → Int32) → (Nat → Int32) → Prop} {T o c : Nat → Nat} {n r : Nat} (hn : n ≤ 32) (h6 : ∀ i, T i < 6) (hT : ∀ i, T (i + n) = T i) (hc : bc_rel T n r c) (hr : r ≤ 32) (ho : bc_so (bc_Gr T (r + r)) n n o)
    (H : ∀ nc, (∀ j, j < n → nc (o j) = bc_ec (bc_K T (r + r)) o j) → ∃ fu, wX_sortRotations_128 post J (nI r) (nI n) f1 f2 f3 f4 fu 0 a1 (bc_I o) (bc_I c) (bc_I nc) a5 a6 a7 a8 a9 a10 a11 a12 a13 a14 a15) :
    ∀ (m i : Nat) (nc : Nat → Nat), n - i < m → i ≤ n → (∀ j, j < i → nc (o j) = bc_ec (bc_K T (r + r)) o j) → wX_sortRotations_70 post J (nI r) (nI n) f1 f2 f3 f4 m (nI (bc_ec (bc_K T (r + r)) o (i - 1))) (nI i) a1 (bc_I o) (bc_I c) (bc_I nc) a5 a6 a7 a8 a9 a10 a11 a12 a13 a14 a15 := by
  intro m
  induction m with
  | zero => intro i nc h; omega
  | succ m ih =>
    intro i nc h hin hh
    refine pk_le n i (fun y => H nc (fun j hj => hh j (by omega))) (fun y => ?_)
    have hoi := ho.1 i (by omega)
    have hei := bc_ec_le (bc_K T (r + r)) o i
    have nx : wX_sortRotations_107 post J (wX_sortRotations_70 post J (nI r) (nI n) f1 f2 f3 f4 m) (nI r) (nI (bc_ec (bc_K T (r + r)) o i)) (nI i) (nI n) f1 f2 f3 f4 a1 (bc_I o) (bc_I c) (bc_I nc) a5 a6 a7 a8 a9 a10 a11 a12 a13 a14 a15 := by
      refine bc_s107 (by omega) (by omega) (by omega) ?_
      refine ih (i + 1) _ (by omega) (by omega) (fun j hj => ?_)
      by_cases e : j = i
      · rw [e, bc_up_s]
      · rw [bc_up_n (fun z => e (ho.2.1 j i (by omega) (by omega) z))]
        exact hh j (by omega)
    refine pk_le i 0 (fun z => ?_) (fun z => ?_)
    · have : i = 0 := by omega
      subst this
      exact nx
    · rw [bc_s1 z, bc_rd (show i - 1 < 2 ^ 31 by omega), bc_rd (show i < 2 ^ 31 by omega)]
      refine ⟨pk_in (i - 1) 32 (by omega), pk_in i 32 (by omega), bc_compare hn h6 hT hc (ho.1 _ (by omega)) hoi hr (fun w h1 h2 => ?_)⟩
      have es := bc_ec_s (bc_K T (r + r)) o (i - 1)
      rw [show i - 1 + 1 = i by omega] at es
      refine br_c (fun g => ?_) (fun g => ?_)
      · rw [if_pos (h2.mp g), Nat.add_zero] at es
        rw [← es]
        exact nx
      · rw [if_neg (fun e => g (h2.mpr e))] at es
        exact nm_r (nI_1 _) (by rw [← es]; exact nx)
theorem bc_s46 {J : Int32 → Int32 → Int32 → Int32 → Int32 → Int32 → (Nat → Int32) → (Nat → Int32) → (Nat → Int32) → (Nat → Int32) → (Nat → Int32) → (Nat → Int32) → (Nat → Int32) → (Nat → Int32) → (Nat → Int32) → (Nat → Int32) → (Nat → Int32) → (Nat → Int32) → (Nat → Int64) → (Nat → Int32) → (Nat → Int32) → Prop} {T c : Nat → Nat} {n r : Nat} (hn : n ≤ 32) (h6 : ∀ i, T i < 6) (hT : ∀ i, T (i + n) = T i) (hc : bc_rel T n r c) (hr : r ≤ 32)
    (H : ∀ o, bc_so (bc_Gr T (r + r)) n n o → ∃ fu, wX_sortRotations_70 post J (nI r) (nI n) f1 f2 f3 f4 fu 0 0 a1 (bc_I o) (bc_I c) a4 a5 a6 a7 a8 a9 a10 a11 a12 a13 a14 a15) :
    ∀ (m i : Nat) (o : Nat → Nat), n - i < m → i ≤ 33 → bc_so (bc_Gr T (r + r)) n i o → wX_sortRotations_46 post J (nI r) m (nI i) (nI n) f1 f2 f3 f4 a1 (bc_I o) (bc_I c) a4 a5 a6 a7 a8 a9 a10 a11 a12 a13 a14 a15 := by
  intro m
  induction m with
  | zero => intro i o h; omega
  | succ m ih =>
    intro i o h hi ho
    refine pk_le n i (fun y => H o ⟨ho.1, ho.2.1, fun x z a b => ho.2.2 x z a (by omega)⟩) (fun y => ?_)
    refine bc_sink hn h6 hT hc y hr ho (fun o' ho' => ?_)
    exact nm_r (nI_1 i) (ih (i + 1) o' (by omega) (by omega) ho')
theorem bc_round {J : Int32 → Int32 → Int32 → Int32 → Int32 → Int32 → (Nat → Int32) → (Nat → Int32) → (Nat → Int32) → (Nat → Int32) → (Nat → Int32) → (Nat → Int32) → (Nat → Int32) → (Nat → Int32) → (Nat → Int32) → (Nat → Int32) → (Nat → Int32) → (Nat → Int32) → (Nat → Int64) → (Nat → Int32) → (Nat → Int32) → Prop} {T o c nc : Nat → Nat} {n r : Nat} (hn : n ≤ 32) (h6 : ∀ i, T i < 6) (hT : ∀ i, T (i + n) = T i) (hc : bc_rel T n r c) (hr : r ≤ 32) (ho : bc_so (bc_Gr T (r + r)) n 1 o)
    (H : ∀ o c nc, bc_so (bc_Gr T (r + r)) n n o → bc_rel T n (r + r) c → J (nI (r + r)) (nI n) f1 f2 f3 f4 a1 (bc_I o) (bc_I c) (bc_I nc) a5 a6 a7 a8 a9 a10 a11 a12 a13 a14 a15) :
    ∃ fu, wX_sortRotations_46 post J (nI r) fu 1 (nI n) f1 f2 f3 f4 a1 (bc_I o) (bc_I c) (bc_I nc) a5 a6 a7 a8 a9 a10 a11 a12 a13 a14 a15 := by
  refine ⟨n + 1, bc_s46 hn h6 hT hc hr (fun o' ho' => ?_) (n + 1) 1 o (by omega) (by omega) ho⟩
  refine ⟨n + 1, bc_s70 hn h6 hT hc hr ho' (fun nc' hnc => ?_) (n + 1) 0 nc (by omega) (by omega) (fun j hj => absurd hj (by omega))⟩
  have hrel := bc_ec_rel hn ho' hnc
  refine ⟨n + 1, bc_s128 hn hrel.1 (fun c' hc' => ?_) (n + 1) 0 c (by omega) (by omega) (fun j hj => absurd hj (by omega))⟩
  refine H o' c' nc' ho' ⟨fun p hp => by rw [hc' p hp]; exact hrel.1 p hp, fun p q hp hq => by rw [hc' p hp, hc' q hq]; exact hrel.2 p q hp hq⟩
theorem bc_s38 {T : Nat → Nat} {n : Nat} (hn : n ≤ 32) (h6 : ∀ i, T i < 6) (hT : ∀ i, T (i + n) = T i)
    (H : ∀ o c nc, bc_ord T n o → post (nI n, f1, f2, f3, f4, a1, bc_I o, bc_I c, bc_I nc, a5, a6, a7, a8, a9, a10, a11, a12, a13, a14, a15)) :
    ∀ (m e : Nat) (o c nc : Nat → Nat), 6 - e < m → e ≤ 6 → bc_so (bc_Gr T (2 ^ e)) n (if e = 0 then 1 else n) o → bc_rel T n (2 ^ e) c → wX_sortRotations_38 post m (nI (2 ^ e)) (nI n) f1 f2 f3 f4 a1 (bc_I o) (bc_I c) (bc_I nc) a5 a6 a7 a8 a9 a10 a11 a12 a13 a14 a15 := by
  intro m
  induction m with
  | zero => intro e o c nc h; omega
  | succ m ih =>
    intro e o c nc h he ho hc
    by_cases z : e = 6
    · subst z
      exact br_t (by decide) (H o c nc ⟨ho.1, fun i j a b => ho.2.2 i j a b⟩)
    · have h5 : 2 ^ e ≤ 2 ^ 5 := Nat.pow_le_pow_right (by omega) (by omega)
      have hd : 2 ^ e + 2 ^ e = 2 ^ (e + 1) := by rw [Nat.pow_succ, Nat.mul_two]
      refine pk_le 64 (2 ^ e) (fun y => absurd y (by omega)) (fun _ => ?_)
      refine bc_round hn h6 hT hc (by omega) ⟨ho.1, ho.2.1, fun i j a b => absurd a (by omega)⟩ (fun o' c' nc' ho' hc' => ?_)
      rw [hd] at ho' hc' ⊢
      exact ih (e + 1) o' c' nc' (by omega) (by omega) (by rw [if_neg (by omega)]; exact ho') hc'
theorem bc_s2 {t : Nat → Nat} {n : Nat} (hn : n ≤ 32) (ht : ∀ j, j < n → t j < 6)
    (H : ∀ o c, (∀ j, j < n → o j = j) → (∀ j, j < n → c j = t j) → ∃ fu, wX_sortRotations_38 post fu 1 (nI n) f1 f2 f3 f4 (bc_I t) (bc_I o) (bc_I c) a4 a5 a6 a7 a8 a9 a10 a11 a12 a13 a14 a15) :
    ∀ (m i : Nat) (o c : Nat → Nat), n - i < m → i ≤ n → (∀ j, j < i → o j = j) → (∀ j, j < i → c j = t j) → wX_sortRotations_2 post (nI n) f1 f2 f3 f4 m (nI i) (bc_I t) (bc_I o) (bc_I c) a4 a5 a6 a7 a8 a9 a10 a11 a12 a13 a14 a15 := by
  intro m
  induction m with
  | zero => intro i o c h; omega
  | succ m ih =>
    intro i o c h hin h1 h2
    refine pk_le n i (fun y => H o c (fun j hj => h1 j (by omega)) (fun j hj => h2 j (by omega))) (fun y => ?_)
    have hti := ht i y
    rw [bc_rd (show i < 2 ^ 31 by omega)]
    refine ⟨pk_in i 32 (by omega), nm_r (bc_st8 rfl rfl (by omega) (by omega)) ⟨pk_in i 32 (by omega), pk_in i 32 (by omega), nm_r (bc_stn rfl rfl (by omega) (by omega)) (nm_r (nI_1 i) ?_)⟩⟩
    exact ih (i + 1) _ _ (by omega) (by omega) (bc_fill (f := fun j => j) h1) (bc_fill h2)
theorem bc_sort {T t : Nat → Nat} {n : Nat} (hn : n ≤ 32) (h6 : ∀ i, T i < 6) (hT : ∀ i, T (i + n) = T i) (ht : ∀ j, j < n → t j = T j)
    (H : ∀ o c nc, bc_ord T n o → post (nI n, f1, f2, f3, f4, bc_I t, bc_I o, bc_I c, bc_I nc, a5, a6, a7, a8, a9, a10, a11, a12, a13, a14, a15)) : wpX_sortRotations post (nI n, f1, f2, f3, f4, bc_I t, a2, a3, a4, a5, a6, a7, a8, a9, a10, a11, a12, a13, a14, a15) := by
  obtain ⟨o0, rfl⟩ := bc_of a2
  obtain ⟨c0, rfl⟩ := bc_of a3
  obtain ⟨n0, rfl⟩ := bc_of a4
  refine ⟨n + 1, bc_s2 hn (fun j hj => by rw [ht j hj]; exact h6 j) (fun o c ho hc => ?_) (n + 1) 0 o0 c0 (by omega) (by omega) (fun j hj => absurd hj (by omega)) (fun j hj => absurd hj (by omega))⟩
  refine ⟨7, bc_s38 hn h6 hT H 7 0 o c n0 (by omega) (by omega) ⟨fun j hj => by rw [ho j hj]; exact hj, fun i j hi hj e => by rw [ho i hi, ho j hj] at e; exact e, fun i j a b => ?_⟩ ⟨fun p hp => ?_, fun p q hp hq => ?_⟩⟩
  · rw [if_pos rfl] at b
    omega
  · rw [hc p hp, ht p hp]
    have := h6 p
    omega
  · rw [hc p hp, hc q hq, ht p hp, ht q hq, Nat.pow_zero, bc_K_1, bc_K_1]
end
end
section
section
variable {post : St2 → Prop} {f0 f1 f2 f3 f4 : Int32} {a1 a2 a3 a4 a5 a6 a7 a8 a9 a10 a11 a12 : Nat → Int32} {a13 : Nat → Int64} {a14 a15 : Nat → Int32}
theorem bc_reset (H : ∀ r, (∀ j, j < 6 → r j = j) → post (f0, f1, f2, f3, f4, a1, a2, a3, a4, a5, a6, a7, bc_I r, a9, a10, a11, a12, a13, a14, a15)) : wpX_resetRow post (f0, f1, f2, f3, f4, a1, a2, a3, a4, a5, a6, a7, a8, a9, a10, a11, a12, a13, a14, a15) := by
  obtain ⟨r0, rfl⟩ := bc_of a8
  have L : ∀ (m i : Nat) (r : Nat → Nat), 6 - i < m → i ≤ 6 → (∀ j, j < i → r j = j) → wX_resetRow_2 post f0 f1 f2 f3 f4 m (nI i) a1 a2 a3 a4 a5 a6 a7 (bc_I r) a9 a10 a11 a12 a13 a14 a15 := by
    intro m
    induction m with
    | zero => intro i r h; omega
    | succ m ih =>
      intro i r h hi hh
      refine pk_le 6 i (fun y => H r (fun j hj => hh j (by omega))) (fun y => ⟨pk_in i 6 (by omega), nm_r (bc_st8 rfl rfl (by omega) (by omega)) (nm_r (nI_1 i) ?_)⟩)
      exact ih (i + 1) _ (by omega) (by omega) (bc_fill (f := fun j => j) hh)
  exact ⟨7, L 7 0 r0 (by omega) (by omega) (fun j hj => absurd hj (by omega))⟩
theorem bc_front {r : Nat → Nat} {p : Nat} (hp : p < 6) (hr : ∀ j, j < 6 → r j < 6)
    (H : ∀ r', r' 0 = r p → (∀ j, j < p → r' (j + 1) = r j) → (∀ j, p < j → j < 6 → r' j = r j) → post (f0, f1, f2, f3, f4, a1, a2, a3, a4, a5, a6, a7, bc_I r', a9, a10, a11, a12, a13, a14, a15)) : wpX_toFront post (f0, f1, f2, f3, f4, a1, a2, a3, a4, a5, a6, a7, bc_I r, a9, a10, a11, a12, a13, a14, a15) (nI p) := by
  have hrp := hr p hp
  have L : ∀ (m k : Nat) (r' : Nat → Nat), k < m → k ≤ p → (∀ j, j ≤ k → r' j = r j) → (∀ j, k ≤ j → j < p → r' (j + 1) = r j) → (∀ j, p < j → j < 6 → r' j = r j) → wX_toFront_9 post (nI (r p)) f0 f1 f2 f3 f4 m (nI k) a1 a2 a3 a4 a5 a6 a7 (bc_I r') a9 a10 a11 a12 a13 a14 a15 := by
    intro m
    induction m with
    | zero => intro k r' h; omega
    | succ m ih =>
      intro k r' h hk h1 h2 h3
      refine pk_le k 0 (fun z => ?_) (fun z => ?_)
      · refine nm_r (e' := bc_I (bc_up r' 0 (r p))) (by rw [bc_vn (by omega), bc_upd]) (H _ bc_up_s (fun j hj => ?_) (fun j hj h6 => ?_))
        · rw [bc_up_n (by omega)]
          exact h2 j (by omega) hj
        · rw [bc_up_n (by omega)]
          exact h3 j hj h6
      · have hk1 := h1 (k - 1) (by omega)
        have hrk := hr (k - 1) (by omega)
        rw [bc_s1 z, bc_rd (show k - 1 < 2 ^ 31 by omega), hk1]
        refine ⟨pk_in (k - 1) 6 (by omega), pk_in k 6 (by omega), nm_r (bc_stn rfl rfl (by omega) (by omega)) (nm_r (bc_m1 z) ?_)⟩
        refine ih (k - 1) _ (by omega) (by omega) (fun j hj => ?_) (fun j hj hjp => ?_) (fun j hj h6 => ?_)
        · rw [bc_up_n (by omega)]
          exact h1 j (by omega)
        · by_cases e : j + 1 = k
          · rw [e, bc_up_s, show k - 1 = j by omega]
          · rw [bc_up_n e]
            exact h2 j (by omega) hjp
        · rw [bc_up_n (by omega)]
          exact h3 j hj h6
  exact ⟨pk_in p 6 hp, nm_r (bc_rd (by omega)) ⟨p + 1, L (p + 1) p r (by omega) (by omega) (fun _ _ => rfl) (fun j a b => absurd a (by omega)) (fun _ _ _ => rfl)⟩⟩
/-- to the front with the letter col k: the row after k + 1 letters -/
theorem bc_frontR {col r : Nat → Nat} {k : Nat} (hk : k < 32) (h0 : col k < 6) (hr : bc_Row col k r) (H : ∀ r', bc_Row col (k + 1) r' → post (f0, f1, f2, f3, f4, a1, a2, a3, a4, a5, a6, a7, bc_I r', a9, a10, a11, a12, a13, a14, a15)) : wpX_toFront post (f0, f1, f2, f3, f4, a1, a2, a3, a4, a5, a6, a7, bc_I r, a9, a10, a11, a12, a13, a14, a15) (nI (bc_pos col k (col k))) :=
  bc_front (bc_pos_lt h0) (fun j hj => (hr j hj).1) (fun r' e0 e1 e2 => H r' (bc_Row_s (by omega) h0 hr e0 e1 e2))
theorem bc_rl16 {J : Int32 → Int32 → Int32 → Int32 → Int32 → Int32 → (Nat → Int32) → (Nat → Int32) → (Nat → Int32) → (Nat → Int32) → (Nat → Int32) → (Nat → Int32) → (Nat → Int32) → (Nat → Int32) → (Nat → Int32) → (Nat → Int32) → (Nat → Int32) → (Nat → Int32) → (Nat → Int64) → (Nat → Int32) → (Nat → Int32) → Prop} {col rk r : Nat → Nat} {k : Nat} (hk : k < 32) (h0 : col k < 6) (hr : bc_Row col k r)
    (H : ∀ r', bc_Row col (k + 1) r' → J (nI (k + 1)) f0 f1 f2 f3 f4 a1 a2 a3 a4 (bc_I col) (bc_I (bc_up rk k (bc_pos col k (col k)))) a7 (bc_I r') a9 a10 a11 a12 a13 a14 a15) :
    ∀ (m j : Nat), bc_pos col k (col k) - j < m → j ≤ bc_pos col k (col k) → wX_rankLetters_16 post J (nI k) f0 f1 f2 f3 f4 a1 a2 a3 a4 (bc_I col) (bc_I rk) a7 (bc_I r) a9 a10 a11 a12 a13 a14 a15 m (nI j) := by
  have hP := bc_pos_lt (col := col) (k := k) h0
  intro m
  induction m with
  | zero => intro j h; omega
  | succ m ih =>
    intro j h hj
    have hrj := (hr j (by omega)).1
    refine ⟨pk_in j 6 (by omega), pk_in k 32 (by omega), ?_⟩
    rw [bc_rd (show j < 2 ^ 31 by omega), bc_rd (show k < 2 ^ 31 by omega)]
    refine pk_eq (r j) (col k) (fun e => ?_) (fun e => ?_)
    · have ej : j = bc_pos col k (col k) := by
        rw [← e]
        exact (hr j (by omega)).2.symm
      refine ⟨pk_in k 32 (by omega), nm_r (bc_st8 rfl rfl (by omega) (by omega)) ?_⟩
      rw [ej]
      exact bc_frontR hk h0 hr (fun r' hr' => nm_r (nI_1 k) (H r' hr'))
    · have ej : j ≠ bc_pos col k (col k) := by
        intro z
        apply e
        rw [z]
        exact bc_Row_at (by omega) hr h0
      exact nm_r (nI_1 j) (ih (j + 1) (by omega) (by omega))
theorem bc_rankL {col : Nat → Nat} {n : Nat} (hn : n ≤ 32) (hc : ∀ j, j < n → col j < 6)
    (H : ∀ rk r, (∀ j, j < n → rk j = bc_pos col j (col j)) → post (nI n, f1, f2, f3, f4, a1, a2, a3, a4, bc_I col, bc_I rk, a7, bc_I r, a9, a10, a11, a12, a13, a14, a15)) : wpX_rankLetters post (nI n, f1, f2, f3, f4, a1, a2, a3, a4, bc_I col, a6, a7, a8, a9, a10, a11, a12, a13, a14, a15) := by
  obtain ⟨rk0, rfl⟩ := bc_of a6
  have L : ∀ (m k : Nat) (rk r : Nat → Nat), n - k < m → k ≤ n → (∀ j, j < k → rk j = bc_pos col j (col j)) → bc_Row col k r → wX_rankLetters_6 post m (nI k) (nI n) f1 f2 f3 f4 a1 a2 a3 a4 (bc_I col) (bc_I rk) a7 (bc_I r) a9 a10 a11 a12 a13 a14 a15 := by
    intro m
    induction m with
    | zero => intro k rk r h; omega
    | succ m ih =>
      intro k rk r h hk hrk hr
      refine pk_le n k (fun y => H rk r (fun j hj => hrk j (by omega))) (fun y => ?_)
      refine ⟨7, bc_rl16 (by omega) (hc k y) hr (fun r' hr' => ?_) 7 0 (by have := bc_pos_lt (col := col) (k := k) (hc k y); omega) (by omega)⟩
      exact ih (k + 1) _ r' (by omega) (by omega) (bc_fill (f := fun j => bc_pos col j (col j)) hrk) hr'
  unfold wpX_rankLetters
  refine bc_reset (fun r hr => ?_)
  exact ⟨n + 1, L (n + 1) 0 rk0 r (by omega) (by omega) (fun j hj => absurd hj (by omega)) (bc_Row_0 hr)⟩
/-- the symbols written so far -/
def bc_wr (Y : List Nat) (sy : Nat → Nat) : Prop := ∀ j, j < Y.length → sy j = Y.getD j 0
theorem bc_wr_add {Y : List Nat} {sy : Nat → Nat} (h : bc_wr Y sy) (s : Nat) : bc_wr (Y ++ [s]) (bc_up sy Y.length s) := by
  intro j hj
  rw [List.length_append, List.length_singleton] at hj
  by_cases e : j = Y.length
  · rw [e, bc_up_s]
    simp
  · rw [bc_up_n e, h j (by omega)]
    rw [List.getD_eq_getElem?_getD, List.getD_eq_getElem?_getD, List.getElem?_append_left (by omega)]
theorem bc_add {sy : Nat → Nat} {c s : Nat} (hc : c < 32) (hs : s < 128) (H : post (f0, f1, f2, nI (c + 1), f4, a1, a2, a3, a4, a5, a6, bc_I (bc_up sy c s), a8, a9, a10, a11, a12, a13, a14, a15)) : wpX_addSymbol post (f0, f1, f2, nI c, f4, a1, a2, a3, a4, a5, a6, bc_I sy, a8, a9, a10, a11, a12, a13, a14, a15) (nI s) :=
  ⟨pk_in c 32 hc, nm_r (bc_st8 rfl rfl (by omega) hs) (nm_r (nI_1 c) H)⟩
/-- what stands behind the run at place k -/
def bc_rest (rk : Nat → Nat) (n k : Nat) : List Nat := if k < n then (rk k + 1) :: bc_sy 0 (bc_ls rk (k + 1) (n - (k + 1))) else []
def bc_todo (rk : Nat → Nat) (n k z : Nat) : List Nat := if k ≤ n then bc_sy z (bc_ls rk k (n - k)) else []
theorem bc_todo_0 {rk : Nat → Nat} {n k : Nat} (z : Nat) (hk : k < n) (h : rk k = 0) : bc_todo rk n k z = bc_todo rk n (k + 1) (z + 1) := by
  unfold bc_todo
  rw [if_pos (by omega), if_pos (by omega), show n - k = (n - (k + 1)) + 1 by omega, bc_ls_s, h, bc_sy_0]
theorem bc_todo_c {rk : Nat → Nat} {n k : Nat} (z : Nat) (hk : k ≤ n) (h : k = n ∨ rk k ≠ 0) : bc_todo rk n k z = bc_bij z ++ bc_rest rk n k := by
  unfold bc_todo bc_rest
  rw [if_pos hk]
  by_cases e : k = n
  · rw [if_neg (by omega), e, Nat.sub_self, List.append_nil]
    exact bc_sy_nil z
  · rw [if_pos (by omega), show n - k = (n - (k + 1)) + 1 by omega, bc_ls_s, bc_sy_c _ _ (by omega)]
theorem bc_rest_n {rk : Nat → Nat} {n k : Nat} (hk : k < n) : bc_rest rk n k = (rk k + 1) :: bc_todo rk n (k + 1) 0 := by
  unfold bc_todo bc_rest
  rw [if_pos hk, if_pos (by omega)]
theorem bc_rest_e {rk : Nat → Nat} {n : Nat} : bc_rest rk n n = bc_todo rk n (n + 1) 0 := by
  unfold bc_todo bc_rest
  rw [if_neg (by omega), if_neg (by omega)]
theorem bc_half {z : Nat} (hz : 0 < z) (hb : z < 2 ^ 30) : (z % 2 = 0 → (nI z - 2) / 2 = nI ((z - 1) / 2)) ∧ (z % 2 = 1 → (nI z - 1) / 2 = nI ((z - 1) / 2)) := by
  refine ⟨fun e => ?_, fun e => ?_⟩
  · rw [show (2 : Int32) = nI 2 from rfl, pk_sub (by omega), pk_div (by omega) (by omega) (by omega)]
    congr 1
    omega
  · rw [bc_s1 hz, show (2 : Int32) = nI 2 from rfl, pk_div (by omega) (by omega) (by omega)]
theorem bc_and1 {z : Nat} (hb : z < 2 ^ 31) : nI z &&& 1 = nI (z % 2) := pk_andN (by omega) 1 (by decide)
theorem bc_sr40 {J : Int32 → Int32 → Int32 → Int32 → Int32 → Int32 → Int32 → (Nat → Int32) → (Nat → Int32) → (Nat → Int32) → (Nat → Int32) → (Nat → Int32) → (Nat → Int32) → (Nat → Int32) → (Nat → Int32) → (Nat → Int32) → (Nat → Int32) → (Nat → Int32) → (Nat → Int32) → (Nat → Int64) → (Nat → Int32) → (Nat → Int32) → Prop} {rk : Nat → Nat} {Y : List Nat} {n k : Nat} (hn : n ≤ 32) (hk : k ≤ n) (hY : Y.length ≤ 32) (hrk : ∀ j, j < n → rk j < 6)
    (H : ∀ Yw sy, bc_wr Yw sy → Yw ++ bc_todo rk n (k + 1) 0 = Y → J (nI 0) (nI (k + 1)) (nI n) f1 f2 (nI Yw.length) f4 a1 a2 a3 a4 a5 (bc_I rk) (bc_I sy) a8 a9 a10 a11 a12 a13 a14 a15) :
    ∀ (m z : Nat) (Yw : List Nat) (sy : Nat → Nat), z < m → z ≤ 40 → bc_wr Yw sy → Yw ++ (bc_bij z ++ bc_rest rk n k) = Y → wX_shortenRuns_40 post J (nI k) m (nI z) (nI n) f1 f2 (nI Yw.length) f4 a1 a2 a3 a4 a5 (bc_I rk) (bc_I sy) a8 a9 a10 a11 a12 a13 a14 a15 := by
  intro m
  induction m with
  | zero => intro z Yw sy h; omega
  | succ m ih =>
    intro z Yw sy h hz hw hY'
    refine pk_le z 0 (fun e => ?_) (fun e => ?_)
    · have : z = 0 := by omega
      subst this
      rw [bc_bij_0, List.nil_append] at hY'
      refine pk_le n k (fun y => ?_) (fun y => ?_)
      · have : k = n := by omega
        subst this
        rw [bc_rest_e] at hY'
        exact nm_r (nI_1 k) (H Yw sy hw hY')
      · rw [bc_rest_n y] at hY'
        have hl : Yw.length < 32 := by
          rw [← hY'] at hY
          simp at hY
          omega
        have hr := hrk k y
        rw [bc_rd (show k < 2 ^ 31 by omega), nI_1 (rk k)]
        refine ⟨pk_in k 32 (by omega), bc_add hl (by omega) (nm_r (nI_1 k) ?_)⟩
        have g := H (Yw ++ [rk k + 1]) _ (bc_wr_add hw _) (by rw [List.append_assoc]; exact hY')
        rw [List.length_append, List.length_singleton] at g
        exact g
    · rw [bc_bij_s e] at hY'
      have hl : Yw.length < 32 := by
        rw [← hY'] at hY
        simp at hY
        omega
      have nx := ih ((z - 1) / 2) (Yw ++ [(z + 1) % 2]) (bc_up sy Yw.length ((z + 1) % 2)) (by omega) (by omega) (bc_wr_add hw _) (by rw [List.append_assoc]; exact hY')
      rw [List.length_append, List.length_singleton] at nx
      obtain ⟨b0, b1⟩ := bc_half e (by omega)
      rw [bc_and1 (by omega)]
      refine pk_eq (z % 2) 0 (fun y => ?_) (fun y => ?_)
      · refine br_t rfl ?_
        unfold wX_shortenRuns_66
        rw [show (z + 1) % 2 = 1 by omega] at nx
        exact bc_add (s := 1) hl (by omega) (br_t rfl ⟨by decide, nm_r (b0 y) nx⟩)
      · refine br_f (by decide) ?_
        unfold wX_shortenRuns_66
        rw [show (z + 1) % 2 = 0 by omega] at nx
        exact bc_add (s := 0) hl (by omega) (br_f (by decide) ⟨by decide, nm_r (b1 (by omega)) nx⟩)
theorem bc_shorten {rk : Nat → Nat} {n : Nat} (hn : n ≤ 32) (hrk : ∀ j, j < n → rk j < 6)
    (H : ∀ sy, bc_wr (bc_sy 0 (bc_ls rk 0 n)) sy → post (nI n, f1, f2, nI (bc_sy 0 (bc_ls rk 0 n)).length, f4, a1, a2, a3, a4, a5, bc_I rk, bc_I sy, a8, a9, a10, a11, a12, a13, a14, a15)) : wpX_shortenRuns post (nI n, f1, f2, f3, f4, a1, a2, a3, a4, a5, bc_I rk, a7, a8, a9, a10, a11, a12, a13, a14, a15) := by
  obtain ⟨sy0, rfl⟩ := bc_of a7
  have hY : (bc_sy 0 (bc_ls rk 0 n)).length ≤ 32 := by
    have := bc_sy_len (bc_ls rk 0 n) 0
    rw [bc_ls_len] at this
    omega
  have L : ∀ (m k z : Nat) (Yw : List Nat) (sy : Nat → Nat), n + 1 - k < m → k ≤ n + 1 → z ≤ k → bc_wr Yw sy → Yw ++ bc_todo rk n k z = bc_sy 0 (bc_ls rk 0 n) → wX_shortenRuns_9 post m (nI z) (nI k) (nI n) f1 f2 (nI Yw.length) f4 a1 a2 a3 a4 a5 (bc_I rk) (bc_I sy) a8 a9 a10 a11 a12 a13 a14 a15 := by
    intro m
    induction m with
    | zero => intro k z Yw sy h; omega
    | succ m ih =>
      intro k z Yw sy h hk hz hw he
      refine pk_lt n k (fun y => ?_) (fun y => ?_)
      · have : Yw = bc_sy 0 (bc_ls rk 0 n) := by
          rw [← he]
          unfold bc_todo
          rw [if_neg (by omega), List.append_nil]
        rw [this] at hw ⊢
        exact H sy hw
      · have nx : (k = n ∨ rk k ≠ 0) → ∃ fu, wX_shortenRuns_40 post (wX_shortenRuns_9 post m) (nI k) fu (nI z) (nI n) f1 f2 (nI Yw.length) f4 a1 a2 a3 a4 a5 (bc_I rk) (bc_I sy) a8 a9 a10 a11 a12 a13 a14 a15 := by
          intro hc
          refine ⟨z + 1, bc_sr40 hn y hY hrk (fun Yw' sy' hw' he' => ?_) (z + 1) z Yw sy (by omega) (by omega) hw (by rw [← bc_todo_c z y hc]; exact he)⟩
          exact ih (k + 1) 0 Yw' sy' (by omega) (by omega) (by omega) hw' he'
        refine pk_le n k (fun w => nx (Or.inl (by omega))) (fun w => ?_)
        have hr := hrk k w
        rw [bc_rd (show k < 2 ^ 31 by omega)]
        refine ⟨pk_in k 32 (by omega), pk_eq (rk k) 0 (fun e => ?_) (fun e => nx (Or.inr e))⟩
        refine nm_r (nI_1 z) (nm_r (nI_1 k) (ih (k + 1) (z + 1) Yw sy (by omega) (by omega) (by omega) hw ?_))
        rw [← bc_todo_0 z w e]
        exact he
  exact ⟨n + 2, L (n + 2) 0 0 [] sy0 (by omega) (by omega) (by omega) (fun j hj => absurd hj (Nat.not_lt_zero j)) (by rw [List.nil_append]; unfold bc_todo; rw [if_pos (by omega)]; rfl)⟩
end
end
section
section
variable {post : St2 → Prop} {f0 f1 f2 f3 f4 : Int32} {a1 a2 a3 a4 a5 a6 a7 a8 a9 a10 a11 a12 : Nat → Int32} {a13 : Nat → Int64} {a14 a15 : Nat → Int32}
theorem bc_light {post : Int32 → Prop} {wt : Nat → Nat} {p0 : Int32} (hw : ∀ g, g < 7 → wt g < 2 ^ 31)
    (H3 : (∀ g, g < 7 → nI g ≠ p0 → wt g = 0) → post (-3)) (H : ∀ g, g < 7 → nI g ≠ p0 → 0 < wt g → post (nI g)) : wpX_lightest post (f0, f1, f2, f3, f4, a1, a2, a3, a4, a5, a6, a7, a8, bc_I wt, a10, a11, a12, a13, a14, a15) p0 := by
  have L : ∀ (m i : Nat) (x : Int32), 7 - i < m → i ≤ 7 → ((x = -3 ∧ ∀ g, g < i → nI g ≠ p0 → wt g = 0) ∨ (∃ g, g < 7 ∧ x = nI g ∧ nI g ≠ p0 ∧ 0 < wt g)) → wX_lightest_5 post p0 f0 f1 f2 f3 f4 a1 a2 a3 a4 a5 a6 a7 a8 (bc_I wt) a10 a11 a12 a13 a14 a15 m x (nI i) := by
    intro m
    induction m with
    | zero => intro i x h; omega
    | succ m ih =>
      intro i x h hi hx
      refine pk_le 7 i (fun y => ?_) (fun y => ?_)
      · rcases hx with ⟨rfl, hx⟩ | ⟨g, hg, rfl, h1, h2⟩
        · exact H3 (fun g hg => hx g (by omega))
        · exact H g hg h1 h2
      · have same : (nI i = p0 ∨ wt i = 0 ∨ ¬ x = -3) → ((x = -3 ∧ ∀ g, g < i + 1 → nI g ≠ p0 → wt g = 0) ∨ (∃ g, g < 7 ∧ x = nI g ∧ nI g ≠ p0 ∧ 0 < wt g)) := by
          intro hc
          rcases hx with ⟨e, hx⟩ | hx
          · refine Or.inl ⟨e, fun g hg hp => ?_⟩
            by_cases eg : g = i
            · subst eg
              rcases hc with hc | hc | hc
              · exact absurd hc hp
              · exact hc
              · exact absurd e hc
            · exact hx g (by omega) hp
          · exact Or.inr hx
        refine br_c (fun e => nm_r (nI_1 i) (ih (i + 1) x (by omega) (by omega) (same (Or.inl e)))) (fun e => ⟨pk_in i 7 (by omega), ?_⟩)
        rw [bc_rd (show i < 2 ^ 31 by omega)]
        have hwi := hw i (by omega)
        refine pk_eq (wt i) 0 (fun z => nm_r (nI_1 i) (ih (i + 1) x (by omega) (by omega) (same (Or.inr (Or.inl z))))) (fun z => ?_)
        have new : ((nI i = -3 ∧ ∀ g, g < i + 1 → nI g ≠ p0 → wt g = 0) ∨ (∃ g, g < 7 ∧ nI i = nI g ∧ nI g ≠ p0 ∧ 0 < wt g)) := Or.inr ⟨i, by omega, rfl, e, by omega⟩
        rcases hx with ⟨rfl, hx⟩ | ⟨g, hg, rfl, h1, h2⟩
        · exact br_t (by decide) (nm_r (nI_1 i) (ih (i + 1) _ (by omega) (by omega) new))
        · refine br_f (nI_pos (by omega)) ⟨pk_in i 7 (by omega), pk_in g 7 (by omega), ?_⟩
          exact br_c (fun _ => nm_r (nI_1 i) (ih (i + 1) _ (by omega) (by omega) (Or.inr ⟨g, hg, rfl, h1, h2⟩))) (fun _ => nm_r (nI_1 i) (ih (i + 1) _ (by omega) (by omega) new))
  exact ⟨8, L 8 0 (-3) (by omega) (by omega) (Or.inl ⟨rfl, fun g hg => absurd hg (by omega)⟩)⟩
/-- the two that lightest gives, one behind the other -/
def bc_pair (wt : Nat → Nat) (r r' : Int32) : Prop := (r = -3 ∧ r' = -3 ∧ ∀ g, g < 7 → wt g = 0) ∨ (∃ f, f < 7 ∧ r = nI f ∧ r' = -3 ∧ 0 < wt f ∧ ∀ g, g < 7 → g ≠ f → wt g = 0) ∨ (∃ f g, f < 7 ∧ g < 7 ∧ f ≠ g ∧ r = nI f ∧ r' = nI g ∧ 0 < wt f ∧ 0 < wt g)
theorem bc_m3 : ∀ g, g < 7 → nI g ≠ -3 := by decide +kernel
theorem bc_light2 {Q : Int32 → Int32 → Prop} {wt : Nat → Nat} (hw : ∀ g, g < 7 → wt g < 2 ^ 31) (H : ∀ r r', bc_pair wt r r' → Q r r') :
    wpX_lightest (fun r => wpX_lightest (fun r' => Q r r') (f0, f1, f2, f3, f4, a1, a2, a3, a4, a5, a6, a7, a8, bc_I wt, a10, a11, a12, a13, a14, a15) r) (f0, f1, f2, f3, f4, a1, a2, a3, a4, a5, a6, a7, a8, bc_I wt, a10, a11, a12, a13, a14, a15) (-3) := by
  refine bc_light hw (fun h => ?_) (fun f hf h1 h2 => ?_)
  · have h' : ∀ g, g < 7 → wt g = 0 := fun g hg => h g hg (bc_m3 g hg)
    refine bc_light hw (fun _ => H _ _ (Or.inl ⟨rfl, rfl, h'⟩)) (fun g hg _ h2 => ?_)
    have := h' g hg
    omega
  · have ne : ∀ g, g < 7 → (nI g ≠ nI f ↔ g ≠ f) := fun g hg => not_congr (nI_eq (by omega) (by omega))
    refine bc_light hw (fun h => H _ _ (Or.inr (Or.inl ⟨f, hf, rfl, rfl, h2, fun g hg e => h g hg ((ne g hg).mpr e)⟩))) (fun g hg h3 h4 => ?_)
    exact H _ _ (Or.inr (Or.inr ⟨f, g, hf, hg, fun e => (ne g hg).mp h3 e.symm, rfl, rfl, h2, h4⟩))
/-! numbering the codes -/
def bc_cdok (bt cd : Nat → Nat) (b s : Nat) : Prop := ∀ i, i < 7 → 0 < bt i → (bt i < b ∨ (bt i = b ∧ i < s)) → cd i * 2 ^ (7 - bt i) = bc_X bt (bt i) i
theorem bc_nc16 {J : Int32 → Int32 → (Nat → Int32) → (Nat → Int32) → (Nat → Int32) → (Nat → Int32) → (Nat → Int32) → (Nat → Int32) → (Nat → Int32) → (Nat → Int32) → (Nat → Int32) → (Nat → Int32) → (Nat → Int32) → (Nat → Int32) → (Nat → Int64) → (Nat → Int32) → (Nat → Int32) → Prop} {bt : Nat → Nat} {b : Nat} (hb : 0 < b) (hb8 : b < 8) (hbt : ∀ s, s < 7 → bt s ≤ 7)
    (H : ∀ v cd, v * 2 ^ (7 - b) = bc_X bt b 7 → bc_cdok bt cd b 7 → J (nI v) (nI (b + 1)) a1 a2 a3 a4 a5 a6 a7 a8 a9 a10 (bc_I bt) (bc_I cd) a13 a14 a15) :
    ∀ (m s v : Nat) (cd : Nat → Nat), 7 - s < m → s ≤ 7 → v * 2 ^ (7 - b) = bc_X bt b s → bc_cdok bt cd b s → wX_numberCodes_16 post J (nI b) f0 f1 f2 f3 f4 m (nI v) (nI s) a1 a2 a3 a4 a5 a6 a7 a8 a9 a10 (bc_I bt) (bc_I cd) a13 a14 a15 := by
  intro m
  induction m with
  | zero => intro s v cd h; omega
  | succ m ih =>
    intro s v cd h hs hv hc
    refine pk_le 7 s (fun y => ?_) (fun y => ⟨pk_in s 7 (by omega), ?_⟩)
    · have : s = 7 := by omega
      subst this
      exact nm_r (nI_1 b) (H v cd hv hc)
    · rw [bc_rd (show s < 2 ^ 31 by omega)]
      have hbs := hbt s y
      refine pk_eq (bt s) b (fun e => ⟨pk_in s 7 (by omega), nm_r (bc_st rfl rfl (by omega)) (nm_r (nI_1 v) (nm_r (nI_1 s) ?_))⟩) (fun e => nm_r (nI_1 s) ?_)
      · refine ih (s + 1) (v + 1) _ (by omega) (by omega) (by rw [bc_X_eq hb y e, ← hv, Nat.succ_mul]) (fun i hi h0 hc' => ?_)
        by_cases ei : i = s
        · subst ei
          rw [bc_up_s, e, hv]
        · rw [bc_up_n ei]
          exact hc i hi h0 (by omega)
      · refine ih (s + 1) v cd (by omega) (by omega) (by rw [bc_X_ne e, hv]) (fun i hi h0 hc' => hc i hi h0 ?_)
        rcases hc' with z | ⟨z, z2⟩
        · exact Or.inl z
        · refine Or.inr ⟨z, ?_⟩
          have : i ≠ s := fun ei => e (by rw [← ei]; exact z)
          omega
theorem bc_number {bt : Nat → Nat} (hbt : ∀ s, s < 7 → bt s ≤ 7)
    (H : ∀ cd, (∀ s, s < 7 → 0 < bt s → cd s * 2 ^ (7 - bt s) = bc_X bt (bt s) s) → post (f0, f1, f2, f3, f4, a1, a2, a3, a4, a5, a6, a7, a8, a9, a10, bc_I bt, bc_I cd, a13, a14, a15)) : wpX_numberCodes post (f0, f1, f2, f3, f4, a1, a2, a3, a4, a5, a6, a7, a8, a9, a10, bc_I bt, a12, a13, a14, a15) := by
  obtain ⟨cd0, rfl⟩ := bc_of a12
  have L : ∀ (m b v : Nat) (cd : Nat → Nat), 8 - b < m → 1 ≤ b → b ≤ 8 → v * 2 ^ (8 - b) = bc_X bt b 0 → bc_cdok bt cd b 0 → wX_numberCodes_4 post f0 f1 f2 f3 f4 m (nI v) (nI b) a1 a2 a3 a4 a5 a6 a7 a8 a9 a10 (bc_I bt) (bc_I cd) a13 a14 a15 := by
    intro m
    induction m with
    | zero => intro b v cd h; omega
    | succ m ih =>
      intro b v cd h h1 h8 hv hc
      refine pk_le 8 b (fun y => H cd (fun s hs h0 => hc s hs h0 (by have := hbt s hs; omega))) (fun y => nm_r (bc_x2 v) ?_)
      refine ⟨8, bc_nc16 (by omega) y hbt (fun v' cd' hv' hc' => ?_) 8 0 (v + v) cd (by omega) (by omega) ?_ hc⟩
      · refine ih (b + 1) v' cd' (by omega) (by omega) (by omega) (by rw [show 8 - (b + 1) = 7 - b by omega, hv', bc_X_7]) (fun i hi h0 hh => hc' i hi h0 (by omega))
      · rw [← hv, show 8 - b = (7 - b) + 1 by omega, Nat.pow_succ, ← Nat.mul_two, Nat.mul_assoc, Nat.mul_comm 2]
  exact ⟨8, L 8 1 0 cd0 (by omega) (by omega) (by omega) (by rw [bc_X_1, Nat.zero_mul]) (fun i hi h0 hh => absurd hh (by omega))⟩
/-! joining groups: U: the symbols in use; ow: which group holds a symbol; lv: how many groups live -/
def bc_HI (U : Nat → Bool) (wt gr bt ow : Nat → Nat) (lv : Nat) : Prop :=
  lv = bc_cnt (fun g => decide (0 < wt g)) 7 ∧ (∀ g, g < 7 → wt g ≤ 32 * 2 ^ (7 - lv)) ∧ (∀ s, s < 7 → U s = true → ow s < 7 ∧ 0 < wt (ow s)) ∧
  (∀ g s, g < 7 → s < 7 → 0 < wt g → ((gr g).testBit s = true ↔ (U s = true ∧ ow s = g))) ∧ (∀ g, g < 7 → gr g < 128) ∧
  (∀ s, s < 7 → ¬ U s = true → bt s = 0) ∧ (∀ s, s < 7 → U s = true → bt s + lv ≤ 8) ∧
  (∀ g, g < 7 → 0 < wt g → bc_sum (fun s => if U s = true ∧ ow s = g then 2 ^ (7 - bt s) else 0) 7 ≤ 128) ∧
  ((∃ f g, f < 7 ∧ g < 7 ∧ f ≠ g ∧ 0 < wt f ∧ 0 < wt g) ∨ (∀ s, s < 7 → U s = true → 0 < bt s))
theorem bc_HI_s {U : Nat → Bool} {wt gr bt ow bt' : Nat → Nat} {lv f g : Nat} (h : bc_HI U wt gr bt ow lv) (hf : f < 7) (hg : g < 7) (hne : f ≠ g) (wf : 0 < wt f) (wg : 0 < wt g)
    (hb : ∀ j, j < 7 → bt' j = bt j + (if (gr g ||| gr f).testBit j = true then 1 else 0)) :
    0 < lv ∧ bc_HI U (bc_up (bc_up wt g (wt g + wt f)) f 0) (bc_up gr g (gr g ||| gr f)) bt' (fun s => if ow s = f then g else ow s) (lv - 1) := by
  obtain ⟨h1, h2, h3, h4, h5, h6, h7, h8, h9⟩ := h
  have wf' : bc_up (bc_up wt g (wt g + wt f)) f 0 f = 0 := bc_up_s
  have wg' : bc_up (bc_up wt g (wt g + wt f)) f 0 g = wt g + wt f := by rw [bc_up_n hne.symm, bc_up_s]
  have wo' : ∀ x, x ≠ f → x ≠ g → bc_up (bc_up wt g (wt g + wt f)) f 0 x = wt x := fun x e1 e2 => by rw [bc_up_n e1, bc_up_n e2]
  have live : ∀ x, 0 < bc_up (bc_up wt g (wt g + wt f)) f 0 x ↔ (x ≠ f ∧ 0 < wt x) := by
    intro x
    by_cases e1 : x = f
    · rw [e1, wf']
      omega
    · by_cases e2 : x = g
      · rw [e2, wg']
        omega
      · rw [wo' x e1 e2]
        exact ⟨fun z => ⟨e1, z⟩, fun z => z.2⟩
  have c1 := bc_cnt_remove (fun g => decide (0 < wt g)) f 7 hf
  rw [if_pos (by simpa using wf)] at c1
  have c2 : bc_cnt (fun x => decide (0 < bc_up (bc_up wt g (wt g + wt f)) f 0 x)) 7 = bc_cnt (fun i => decide (0 < wt i) && !(i == f)) 7 := by
    apply bc_cnt_congr
    intro i _
    have := live i
    by_cases e1 : i = f
    · have z : ¬ 0 < bc_up (bc_up wt g (wt g + wt f)) f 0 i := fun z => (this.mp z).1 e1
      simp [e1, wf']
    · by_cases e2 : 0 < wt i
      · simp [e1, e2, this.mpr ⟨e1, e2⟩]
      · have z : ¬ 0 < bc_up (bc_up wt g (wt g + wt f)) f 0 i := fun z => e2 (this.mp z).2
        simp [e1, e2, z]
  have c3 : 0 < bc_cnt (fun i => decide (0 < wt i) && !(i == f)) 7 := by
    rw [bc_cnt_remove _ g 7 hg, if_pos (by simp [wg, hne.symm])]
    omega
  have tb : ∀ s, s < 7 → ((gr g ||| gr f).testBit s = true ↔ (U s = true ∧ (ow s = g ∨ ow s = f))) := by
    intro s hs
    rw [Nat.testBit_or, Bool.or_eq_true, h4 g s hg hs wg, h4 f s hf hs wf]
    constructor
    · rintro (⟨a, b⟩ | ⟨a, b⟩)
      · exact ⟨a, Or.inl b⟩
      · exact ⟨a, Or.inr b⟩
    · rintro ⟨a, b | b⟩
      · exact Or.inl ⟨a, b⟩
      · exact Or.inr ⟨a, b⟩
  have bin : ∀ s, s < 7 → U s = true → (ow s = g ∨ ow s = f) → bt' s = bt s + 1 := fun s hs hu ho => by rw [hb s hs, if_pos ((tb s hs).mpr ⟨hu, ho⟩)]
  have bout : ∀ s, s < 7 → ¬ (U s = true ∧ (ow s = g ∨ ow s = f)) → bt' s = bt s := fun s hs hu => by rw [hb s hs, if_neg (fun z => hu ((tb s hs).mp z)), Nat.add_zero]
  refine ⟨by omega, by omega, ?_, ?_, ?_, ?_, ?_, ?_, ?_, ?_⟩
  · intro x hx
    have e : 7 - (lv - 1) = (7 - lv) + 1 := by
      have := bc_cnt_le (fun g => decide (0 < wt g)) 7
      omega
    rw [e, Nat.pow_succ]
    have b1 := h2 g hg
    have b2 := h2 f hf
    have b3 := h2 x hx
    by_cases e1 : x = f
    · rw [e1, wf']
      exact Nat.zero_le _
    · by_cases e2 : x = g
      · rw [e2, wg']
        omega
      · rw [wo' x e1 e2]
        omega
  · intro s hs hu
    obtain ⟨o1, o2⟩ := h3 s hs hu
    dsimp only
    by_cases e : ow s = f
    · rw [if_pos e]
      exact ⟨hg, (live g).mpr ⟨hne.symm, wg⟩⟩
    · rw [if_neg e]
      exact ⟨o1, (live _).mpr ⟨e, o2⟩⟩
  · intro x s hx hs hl
    obtain ⟨l1, l2⟩ := (live x).mp hl
    by_cases e : x = g
    · rw [e, bc_up_s, tb s hs]
      constructor
      · rintro ⟨a, b⟩
        refine ⟨a, ?_⟩
        dsimp only
        split
        · rfl
        · omega
      · rintro ⟨a, b⟩
        refine ⟨a, ?_⟩
        dsimp only at b
        split at b
        · exact Or.inr (by assumption)
        · exact Or.inl b
    · rw [bc_up_n e, h4 x s hx hs l2]
      constructor
      · rintro ⟨a, b⟩
        exact ⟨a, by dsimp only; rw [if_neg (by omega)]; exact b⟩
      · rintro ⟨a, b⟩
        refine ⟨a, ?_⟩
        dsimp only at b
        split at b
        · omega
        · exact b
  · intro x hx
    by_cases e : x = g
    · rw [e, bc_up_s]
      exact Nat.or_lt_two_pow (n := 7) (h5 g hg) (h5 f hf)
    · rw [bc_up_n e]
      exact h5 x hx
  · intro s hs hu
    rw [bout s hs (fun z => hu z.1)]
    exact h6 s hs hu
  · intro s hs hu
    have := h7 s hs hu
    rw [hb s hs]
    split <;> omega
  · intro x hx hl
    obtain ⟨l1, l2⟩ := (live x).mp hl
    by_cases e : x = g
    · subst e
      have ox : ∀ s, (if ow s = f then x else ow s) = x ↔ (ow s = x ∨ ow s = f) := by
        intro s
        by_cases q : ow s = f
        · rw [if_pos q]
          exact ⟨fun _ => Or.inr q, fun _ => rfl⟩
        · rw [if_neg q]
          exact ⟨fun z => Or.inl z, fun z => z.elim id (fun z => absurd z q)⟩
      have A := h8 x hg wg
      have B := h8 f hf wf
      have S2 : bc_sum (fun s => (if U s = true ∧ (if ow s = f then x else ow s) = x then 2 ^ (7 - bt' s) else 0) + (if U s = true ∧ (if ow s = f then x else ow s) = x then 2 ^ (7 - bt' s) else 0)) 7
          ≤ bc_sum (fun s => (if U s = true ∧ ow s = x then 2 ^ (7 - bt s) else 0) + (if U s = true ∧ ow s = f then 2 ^ (7 - bt s) else 0)) 7 := by
        apply bc_sum_mono
        intro s hs
        by_cases hu : U s = true ∧ (ow s = x ∨ ow s = f)
        · have hbs := h7 s hs hu.1
          have e3 : 2 ^ (7 - bt' s) + 2 ^ (7 - bt' s) = 2 ^ (7 - bt s) := by
            rw [bin s hs hu.1 hu.2, ← Nat.mul_two, ← Nat.pow_succ]
            congr 1
            omega
          rw [if_pos ⟨hu.1, (ox s).mpr hu.2⟩, e3]
          rcases hu.2 with z | z
          · rw [if_pos (c := U s = true ∧ ow s = x) ⟨hu.1, z⟩]
            exact Nat.le_add_right _ _
          · rw [if_pos (c := U s = true ∧ ow s = f) ⟨hu.1, z⟩]
            exact Nat.le_add_left _ _
        · rw [if_neg]
          · exact Nat.zero_le _
          · rintro ⟨a, b⟩
            exact hu ⟨a, (ox s).mp b⟩
      rw [bc_sum_add, bc_sum_add] at S2
      dsimp only
      omega
    · have : bc_sum (fun s => if U s = true ∧ (if ow s = f then g else ow s) = x then 2 ^ (7 - bt' s) else 0) 7 = bc_sum (fun s => if U s = true ∧ ow s = x then 2 ^ (7 - bt s) else 0) 7 := by
        apply bc_sum_congr
        intro s hs
        by_cases hu : U s = true ∧ ow s = x
        · rw [if_pos hu, if_pos ⟨hu.1, by rw [if_neg (by omega)]; exact hu.2⟩, bout s hs (by omega)]
        · rw [if_neg hu, if_neg]
          rintro ⟨a, b⟩
          apply hu
          refine ⟨a, ?_⟩
          split at b
          · omega
          · exact b
      dsimp only
      rw [this]
      exact h8 x hx l2
  · by_cases all : ∀ s, s < 7 → U s = true → (ow s = g ∨ ow s = f)
    · refine Or.inr (fun s hs hu => ?_)
      rw [bin s hs hu (all s hs hu)]
      omega
    · refine Or.inl ?_
      have : ∃ s, s < 7 ∧ U s = true ∧ ¬ (ow s = g ∨ ow s = f) := by
        apply Classical.byContradiction
        intro hno
        apply all
        intro s hs hu
        apply Classical.byContradiction
        intro hno2
        exact hno ⟨s, hs, hu, hno2⟩
      obtain ⟨s, hs, hu, ho⟩ := this
      obtain ⟨o1, o2⟩ := h3 s hs hu
      exact ⟨g, ow s, hg, o1, fun z => ho (Or.inl z.symm), (live g).mpr ⟨hne.symm, wg⟩, (live _).mpr ⟨fun z => ho (Or.inr z), o2⟩⟩
end
end
section
theorem wb_tb (n : Nat) : (lN n).toBitVec = BitVec.ofNat 64 n := rfl
theorem wb_inj {a b : Int64} (h : a.toBitVec = b.toBitVec) : a = b := Int64.toBitVec_inj.mp h
theorem wb_tn {n : Nat} (h : n < 2 ^ 64) : (lN n).toBitVec.toNat = n := by rw [wb_tb, BitVec.toNat_ofNat, Nat.mod_eq_of_lt h]
theorem wb_of (x : Int64) : ∃ n, n < 2 ^ 64 ∧ x = lN n := ⟨x.toBitVec.toNat, x.toBitVec.isLt, wb_inj (by rw [wb_tb]; simp)⟩
theorem wb_of32 (x : Int32) : ∃ n, n < 2 ^ 32 ∧ x = nI n := ⟨x.toBitVec.toNat, x.toBitVec.isLt, Int32.toBitVec_inj.mp (by show _ = BitVec.ofNat 32 _; simp)⟩
theorem wb_c : ∀ k, k < 64 → ((nI k).toInt64 &&& 63) = lN k := by decide +kernel
theorem wb_cu : ∀ k, k < 64 → ((nI k).toInt64.toUInt64 &&& Int64.toUInt64 63) = UInt64.ofNat k := by decide +kernel
theorem wb_sm : ∀ k, k < 64 → (BitVec.ofNat 64 k).smod 64 = BitVec.ofNat 64 k := by decide +kernel
theorem wb_pw {a b : Nat} (h : a ≤ b) : 2 ^ b = 2 ^ a * 2 ^ (b - a) := by rw [← Nat.pow_add]; congr 1; omega
theorem wb_lt2 {a b : Nat} (h : a < b) : 2 ^ a < 2 ^ b := Nat.pow_lt_pow_right (by decide) h
theorem wb_mod (n : Nat) : lN n = lN (n % 2 ^ 64) := wb_inj (by rw [wb_tb, wb_tb]; apply BitVec.eq_of_toNat_eq; rw [BitVec.toNat_ofNat, BitVec.toNat_ofNat, Nat.mod_mod])
theorem wb_shr {n k : Nat} (hn : n < 2 ^ 64) (hk : k < 64) : ((lN n).toUInt64 >>> ((nI k).toInt64.toUInt64 &&& Int64.toUInt64 63)).toInt64 = lN (n / 2 ^ k) := by
  rw [wb_cu k hk]
  apply wb_inj
  apply BitVec.eq_of_toNat_eq
  show ((lN n).toUInt64 >>> UInt64.ofNat k).toNat = (BitVec.ofNat 64 _).toNat
  have h1 : (UInt64.ofNat k).toNat = k := by
    show (BitVec.ofNat 64 k).toNat = k
    rw [BitVec.toNat_ofNat, Nat.mod_eq_of_lt (by omega)]
  have h2 : (lN n).toUInt64.toNat = n := wb_tn hn
  rw [UInt64.toNat_shiftRight, h1, h2, Nat.mod_eq_of_lt hk, Nat.shiftRight_eq_div_pow, BitVec.toNat_ofNat, Nat.mod_eq_of_lt (Nat.lt_of_le_of_lt (Nat.div_le_self _ _) hn)]
theorem wb_shl (n : Nat) {k : Nat} (hk : k < 64) : lN n <<< ((nI k).toInt64 &&& 63) = lN (n * 2 ^ k) := by
  rw [wb_c k hk]
  apply wb_inj
  rw [Int64.toBitVec_shiftLeft, wb_tb, wb_tb, wb_tb, wb_sm k hk]
  apply BitVec.eq_of_toNat_eq
  rw [BitVec.shiftLeft_eq', BitVec.toNat_shiftLeft, BitVec.toNat_ofNat, BitVec.toNat_ofNat, BitVec.toNat_ofNat, Nat.mod_eq_of_lt (show k < 2 ^ 64 by omega), Nat.shiftLeft_eq, Nat.mul_mod, Nat.mod_mod, ← Nat.mul_mod]
theorem wb_and {a b : Nat} (ha : a < 2 ^ 64) (hb : b < 2 ^ 64) : lN a &&& lN b = lN (a &&& b) := by
  apply wb_inj
  rw [Int64.toBitVec_and, wb_tb, wb_tb, wb_tb]
  apply BitVec.eq_of_toNat_eq
  rw [BitVec.toNat_and, BitVec.toNat_ofNat, BitVec.toNat_ofNat, BitVec.toNat_ofNat, Nat.mod_eq_of_lt ha, Nat.mod_eq_of_lt hb, Nat.mod_eq_of_lt (Nat.and_lt_two_pow _ hb)]
theorem wb_or {a b : Nat} (ha : a < 2 ^ 64) (hb : b < 2 ^ 64) : lN a ||| lN b = lN (a ||| b) := by
  apply wb_inj
  rw [Int64.toBitVec_or, wb_tb, wb_tb, wb_tb]
  apply BitVec.eq_of_toNat_eq
  rw [BitVec.toNat_or, BitVec.toNat_ofNat, BitVec.toNat_ofNat, BitVec.toNat_ofNat, Nat.mod_eq_of_lt ha, Nat.mod_eq_of_lt hb, Nat.mod_eq_of_lt (Nat.or_lt_two_pow ha hb)]
theorem wb_mask {n k : Nat} (hn : n < 2 ^ 64) (hk : k < 64) : lN n &&& lN (2 ^ k - 1) = lN (n % 2 ^ k) := by
  rw [wb_and hn (by have := wb_lt2 hk; omega), Nat.and_two_pow_sub_one_eq_mod]
theorem wb_a1 {n : Nat} (hn : n < 2 ^ 64) : lN n &&& 1 = lN (n % 2) := wb_mask (k := 1) hn (by decide)
theorem wb_bit {n k : Nat} (hn : n < 2 ^ 64) (hk : k < 64) : ((lN n).toUInt64 >>> ((nI k).toInt64.toUInt64 &&& Int64.toUInt64 63)).toInt64 &&& 1 = lN (n / 2 ^ k % 2) := by
  rw [wb_shr hn hk, wb_a1 (Nat.lt_of_le_of_lt (Nat.div_le_self _ _) hn)]
end
section
section
variable {post : St2 → Prop} {f0 f1 f2 f3 f4 : Int32} {a1 a2 a3 a4 a5 a6 a7 a8 a9 a10 a11 a12 : Nat → Int32} {a13 : Nat → Int64} {a14 a15 : Nat → Int32}
theorem bc_or (a b : Nat) : nI a ||| nI b = nI (a ||| b) := by
  apply Int32.toBitVec_inj.1
  show BitVec.ofNat 32 a ||| BitVec.ofNat 32 b = BitVec.ofNat 32 (a ||| b)
  apply BitVec.eq_of_getLsbD_eq
  intro i hi
  simp [hi]
theorem bc_sl : ∀ s, s < 32 → ((nI s &&& 31).toBitVec.smod 32).toNat = s := by decide +kernel
theorem bc_bit {M s : Nat} (hM : M < 2 ^ 31) (hs : s < 32) : (nI M >>> (nI s &&& 31)) &&& 1 = nI (M / 2 ^ s % 2) := by
  rw [pk_shrN hM _ s (bc_sl s hs), bc_and1 (Nat.lt_of_le_of_lt (Nat.div_le_self _ _) hM)]
theorem bc_tb (M s : Nat) : M.testBit s = true ↔ M / 2 ^ s % 2 = 1 := by
  rw [Nat.testBit_eq_decide_div_mod_eq, decide_eq_true_iff]
theorem bc_sh1 {s : Nat} (hs : s < 31) : (1 : Int32) <<< (nI s &&& 31) = nI (2 ^ s) := by
  have h : 2 ^ s < 2 ^ 31 := Nat.pow_lt_pow_right (by omega) hs
  have := pk_shlN (n := 1) (nI s &&& 31) s (bc_sl s (by omega)) (by omega)
  rw [Nat.one_mul] at this
  exact this
theorem bc_HI_end {U : Nat → Bool} {wt gr bt ow : Nat → Nat} {lv : Nat} (h : bc_HI U wt gr bt ow lv) (hno : ∀ f g, f < 7 → g < 7 → 0 < wt f → 0 < wt g → f = g) :
    (∀ s, s < 7 → U s = true → 0 < bt s) ∧ (∀ s, s < 7 → bt s ≤ 7) ∧ bc_sum (fun s => if 0 < bt s then 2 ^ (7 - bt s) else 0) 7 ≤ 128 := by
  obtain ⟨h1, h2, h3, h4, h5, h6, h7, h8, h9⟩ := h
  refine ⟨?_, ?_, ?_⟩
  · rcases h9 with ⟨f, g, hf, hg, hne, wf, wg⟩ | h9
    · exact absurd (hno f g hf hg wf wg) hne
    · exact h9
  · intro s hs
    by_cases hu : U s = true
    · obtain ⟨o1, o2⟩ := h3 s hs hu
      have := h7 s hs hu
      have c : 0 < bc_cnt (fun g => decide (0 < wt g)) 7 := by
        rw [bc_cnt_remove _ (ow s) 7 o1, if_pos (by simpa using o2)]
        omega
      omega
    · rw [h6 s hs hu]
      omega
  · by_cases hx : ∃ s, s < 7 ∧ U s = true
    · obtain ⟨s0, hs0, hu0⟩ := hx
      obtain ⟨o1, o2⟩ := h3 s0 hs0 hu0
      refine Nat.le_trans ?_ (h8 _ o1 o2)
      apply bc_sum_mono
      intro s hs
      by_cases hu : U s = true
      · obtain ⟨p1, p2⟩ := h3 s hs hu
        rw [if_pos (c := U s = true ∧ ow s = ow s0) ⟨hu, hno _ _ p1 o1 p2 o2⟩]
        split
        · exact Nat.le_refl _
        · exact Nat.zero_le _
      · rw [if_neg (by rw [h6 s hs hu]; omega)]
        exact Nat.zero_le _
    · rw [bc_sum_zero]
      · omega
      · intro s hs
        rw [if_neg]
        rw [h6 s hs (fun z => hx ⟨s, hs, z⟩)]
        omega
theorem bc_HI_0 {U : Nat → Bool} {wt gr bt : Nat → Nat} (hU : ∀ s, s < 7 → (U s = true ↔ 0 < wt s)) (hw : ∀ g, g < 7 → wt g ≤ 32) (hg : ∀ g, g < 7 → gr g = 2 ^ g) (h0 : ∀ s, s < 7 → ¬ U s = true → bt s = 0) (h1 : ∀ s, s < 7 → bt s ≤ 1)
    (hl : (∃ f g, f < 7 ∧ g < 7 ∧ f ≠ g ∧ 0 < wt f ∧ 0 < wt g) ∨ (∀ s, s < 7 → U s = true → 0 < bt s)) : bc_HI U wt gr bt (fun s => s) (bc_cnt (fun g => decide (0 < wt g)) 7) := by
  have hc := bc_cnt_le (fun g => decide (0 < wt g)) 7
  refine ⟨rfl, ?_, ?_, ?_, ?_, h0, ?_, ?_, hl⟩
  · intro g hg'
    have := hw g hg'
    have p := Nat.two_pow_pos (7 - bc_cnt (fun g => decide (0 < wt g)) 7)
    omega
  · intro s hs hu
    exact ⟨hs, (hU s hs).mp hu⟩
  · intro g s hg' hs hlive
    rw [hg g hg', Nat.testBit_two_pow]
    simp only [decide_eq_true_iff]
    constructor
    · intro e
      subst e
      exact ⟨(hU _ hs).mpr hlive, rfl⟩
    · rintro ⟨_, e⟩
      exact e.symm
  · intro g hg'
    rw [hg g hg']
    exact Nat.pow_lt_pow_right (by omega) hg'
  · intro s hs _
    have := h1 s hs
    omega
  · intro g hg' hlive
    have e := bc_sum_point (f := fun _ => 0) (g := fun s => if U s = true ∧ s = g then 2 ^ (7 - bt s) else 0) (n := 7) (v := g) (d := 2 ^ (7 - bt g)) hg' (fun i hi hne => if_neg (fun z => hne z.2)) (by rw [if_pos ⟨(hU g hg').mpr hlive, rfl⟩, Nat.zero_add])
    rw [bc_sum_zero (f := fun _ => 0) (fun _ _ => rfl), Nat.zero_add] at e
    rw [e]
    exact Nat.pow_le_pow_right (n := 2) (j := 7) (by omega) (by omega)
theorem bc_fb143 {J : Int32 → Int32 → (Nat → Int32) → (Nat → Int32) → (Nat → Int32) → (Nat → Int32) → (Nat → Int32) → (Nat → Int32) → (Nat → Int32) → (Nat → Int32) → (Nat → Int32) → (Nat → Int32) → (Nat → Int32) → (Nat → Int32) → (Nat → Int64) → (Nat → Int32) → (Nat → Int32) → Prop} {wt gr bt : Nat → Nat} {g : Nat} (hg : g < 7) (hM : gr g < 128) (hw : ∀ g, g < 7 → wt g < 2 ^ 31) (hb : ∀ s, s < 7 → bt s < 100)
    (H : ∀ bt', (∀ j, j < 7 → bt' j = bt j + (if (gr g).testBit j = true then 1 else 0)) → ∀ r r', bc_pair wt r r' → J r r' a1 a2 a3 a4 a5 a6 a7 a8 (bc_I wt) (bc_I gr) (bc_I bt') a12 a13 a14 a15) :
    ∀ (m s : Nat) (bt' : Nat → Nat), 7 - s < m → s ≤ 7 → (∀ j, j < s → bt' j = bt j + (if (gr g).testBit j = true then 1 else 0)) → (∀ j, s ≤ j → j < 7 → bt' j = bt j) → wX_findBits_143 post J (nI g) f0 f1 f2 f3 f4 m (nI s) a1 a2 a3 a4 a5 a6 a7 a8 (bc_I wt) (bc_I gr) (bc_I bt') a12 a13 a14 a15 := by
  intro m
  induction m with
  | zero => intro s bt' h; omega
  | succ m ih =>
    intro s bt' h hs h1 h2
    refine pk_le 7 s (fun y => ?_) (fun y => ⟨pk_in g 7 hg, ?_⟩)
    · exact bc_light2 hw (H bt' (fun j hj => h1 j (by omega)))
    · rw [bc_rd (show g < 2 ^ 31 by omega), bc_bit (show gr g < 2 ^ 31 by omega) (show s < 32 by omega), bc_rd (show s < 2 ^ 31 by omega)]
      have hbs := hb s y
      have e2 := h2 s (by omega) y
      have t := bc_tb (gr g) s
      refine pk_eq (gr g / 2 ^ s % 2) 0 (fun z => nm_r (nI_1 s) (ih (s + 1) bt' (by omega) (by omega) (fun j hj => ?_) (fun j a b => h2 j (by omega) b))) (fun z => ⟨pk_in s 7 (by omega), pk_in s 7 (by omega), nm_r (bc_st8 (x := bt s + 1) rfl (by rw [e2, nI_1]) (by omega) (by omega)) (nm_r (nI_1 s) (ih (s + 1) _ (by omega) (by omega) (fun j hj => ?_) (fun j a b => ?_)))⟩)
      · by_cases e : j = s
        · subst e
          rw [if_neg (fun q => by have := t.mp q; omega), Nat.add_zero]
          exact e2
        · exact h1 j (by omega)
      · by_cases e : j = s
        · subst e
          rw [bc_up_s, if_pos (t.mpr (by have := Nat.mod_lt (gr g / 2 ^ j) (show 0 < 2 by omega); omega))]
        · rw [bc_up_n e]
          exact h1 j (by omega)
      · rw [bc_up_n (by omega)]
        exact h2 j (by omega) b
theorem bc_fb96 {U : Nat → Bool}
    (H : ∀ wt gr bt, (∀ s, s < 7 → U s = true → 0 < bt s) → (∀ s, s < 7 → bt s ≤ 7) → bc_sum (fun s => if 0 < bt s then 2 ^ (7 - bt s) else 0) 7 ≤ 128 → wX_findBits_195 post f0 f1 f2 f3 f4 a1 a2 a3 a4 a5 a6 a7 a8 (bc_I wt) (bc_I gr) (bc_I bt) a12 a13 a14 a15) :
    ∀ (m lv : Nat) (wt gr bt ow : Nat → Nat) (r r' : Int32), lv < m → bc_HI U wt gr bt ow lv → bc_pair wt r r' → wX_findBits_96 post f0 f1 f2 f3 f4 m r r' a1 a2 a3 a4 a5 a6 a7 a8 (bc_I wt) (bc_I gr) (bc_I bt) a12 a13 a14 a15 := by
  intro m
  induction m with
  | zero => intro lv wt gr bt ow r r' h; omega
  | succ m ih =>
    intro lv wt gr bt ow r r' h hI hp
    rcases hp with ⟨rfl, rfl, hp⟩ | ⟨f, hf, rfl, rfl, wf, hp⟩ | ⟨f, g, hf, hg, hne, rfl, rfl, wf, wg⟩
    · obtain ⟨e1, e2, e3⟩ := bc_HI_end hI (fun f g hf hg wf wg => by have := hp f hf; omega)
      exact br_t (by decide) (H wt gr bt e1 e2 e3)
    · obtain ⟨e1, e2, e3⟩ := bc_HI_end hI (fun x g hx hg wx wg => by
        have q1 : x = f := Classical.byContradiction (fun z => by have := hp x hx z; omega)
        have q2 : g = f := Classical.byContradiction (fun z => by have := hp g hg z; omega)
        omega)
      exact br_f (nI_pos (by omega)) (br_t (by decide) (H wt gr bt e1 e2 e3))
    · have hI' := hI
      obtain ⟨h1, h2, h3, h4, h5, h6, h7, h8, h9⟩ := hI
      have lv7 : lv ≤ 7 := by rw [h1]; exact bc_cnt_le _ _
      have p7 : 32 * 2 ^ (7 - lv) ≤ 32 * 2 ^ 7 := Nat.mul_le_mul_left 32 (Nat.pow_le_pow_right (by omega) (by omega))
      have b1 := h2 f hf
      have b2 := h2 g hg
      have bb : ∀ s, s < 7 → bt s < 100 := by
        intro s hs
        by_cases hu : U s = true
        · have := h7 s hs hu
          omega
        · rw [h6 s hs hu]
          omega
      have f5 := h5 f hf
      have g5 := h5 g hg
      have gor : gr g ||| gr f < 128 := Nat.or_lt_two_pow (n := 7) g5 f5
      refine br_f (nI_pos (by omega)) (br_f (nI_pos (by omega)) ⟨pk_in g 7 hg, pk_in f 7 hf, pk_in g 7 hg, nm_r (bc_st (k := g) (x := gr g ||| gr f) rfl (by rw [bc_rd (by omega), bc_rd (by omega), bc_or]) (by omega)) ⟨pk_in g 7 hg, pk_in f 7 hf, pk_in g 7 hg, nm_r (bc_st (k := g) (x := wt g + wt f) rfl (by rw [bc_rd (by omega), bc_rd (by omega), nI_add]) (by omega)) ⟨pk_in f 7 hf, nm_r (bc_st (k := f) (x := 0) rfl rfl (by omega)) ⟨8, ?_⟩⟩⟩⟩)
      refine bc_fb143 hg (by rw [bc_up_s]; exact gor) (fun x hx => ?_) bb (fun bt' hbt' r r' hp' => ?_) 8 0 bt (by omega) (by omega) (fun j hj => absurd hj (by omega)) (fun _ _ _ => rfl)
      · have b3 := h2 x hx
        by_cases e1 : x = f
        · rw [e1, bc_up_s]
          omega
        · rw [bc_up_n e1]
          by_cases e2 : x = g
          · rw [e2, bc_up_s]
            omega
          · rw [bc_up_n e2]
            omega
      · rw [bc_up_s] at hbt'
        obtain ⟨q1, q2⟩ := bc_HI_s hI' hf hg hne wf wg hbt'
        exact ih (lv - 1) _ _ bt' _ r r' (by omega) q2 hp'
theorem bc_fb195 {bt : Nat → Nat} (hbt : ∀ s, s < 7 → bt s ≤ 7) (hk : bc_sum (fun s => if 0 < bt s then 2 ^ (7 - bt s) else 0) 7 ≤ 128)
    (H : ∀ cd, bc_pc bt cd → post (f0, f1, f2, f3, f4, a1, a2, a3, a4, a5, a6, a7, a8, a9, a10, bc_I bt, bc_I cd, a13, a14, a15)) : wX_findBits_195 post f0 f1 f2 f3 f4 a1 a2 a3 a4 a5 a6 a7 a8 a9 a10 (bc_I bt) a12 a13 a14 a15 := by
  unfold wX_findBits_195
  exact bc_number hbt (fun cd hcd => H cd (bc_pc_of hbt hk hcd))
theorem bc_find {sy : Nat → Nat} {sc : Nat} (hsc : sc ≤ 32) (hsy : ∀ k, k < sc → sy k < 7)
    (H : ∀ wt gr bt cd, (∀ k, k < sc → 0 < bt (sy k)) → (∀ s, s < 7 → bt s ≤ 7) → bc_pc bt cd → post (f0, f1, f2, nI sc, f4, a1, a2, a3, a4, a5, a6, bc_I sy, a8, bc_I wt, bc_I gr, bc_I bt, bc_I cd, a13, a14, a15)) : wpX_findBits post (f0, f1, f2, nI sc, f4, a1, a2, a3, a4, a5, a6, bc_I sy, a8, a9, a10, a11, a12, a13, a14, a15) := by
  obtain ⟨wt0, rfl⟩ := bc_of a9
  obtain ⟨gr0, rfl⟩ := bc_of a10
  obtain ⟨bt0, rfl⟩ := bc_of a11
  obtain ⟨cd0, rfl⟩ := bc_of a12
  have fin : ∀ (U : Nat → Bool) wt gr bt, (∀ k, k < sc → U (sy k) = true) → (∀ s, s < 7 → U s = true → 0 < bt s) → (∀ s, s < 7 → bt s ≤ 7) → bc_sum (fun s => if 0 < bt s then 2 ^ (7 - bt s) else 0) 7 ≤ 128 → wX_findBits_195 post f0 f1 f2 (nI sc) f4 a1 a2 a3 a4 a5 a6 (bc_I sy) a8 (bc_I wt) (bc_I gr) (bc_I bt) (bc_I cd0) a13 a14 a15 :=
    fun U wt gr bt hU h1 h2 h3 => bc_fb195 h2 h3 (fun cd hcd => H wt gr bt cd (fun k hk => h1 _ (hsy k hk) (hU k hk)) h2 hcd)
  have L39 : ∀ (gr bt : Nat → Nat), (∀ g, g < 7 → gr g = 2 ^ g) → (∀ g, g < 7 → bt g = 0) → ∀ (m k : Nat) (wt : Nat → Nat), sc - k < m → k ≤ sc → (∀ s, s < 7 → wt s ≤ k) → (∀ s, s < 7 → (0 < wt s → ∃ j, j < k ∧ sy j = s)) → (∀ j, j < k → 0 < wt (sy j)) → wX_findBits_39 post f0 f1 f2 (nI sc) f4 m (nI k) a1 a2 a3 a4 a5 a6 (bc_I sy) a8 (bc_I wt) (bc_I gr) (bc_I bt) (bc_I cd0) a13 a14 a15 := by
    intro gr bt hgr hbt m
    induction m with
    | zero => intro k wt h; omega
    | succ m ih =>
      intro k wt h hk w1 w2 w3
      refine pk_le sc k (fun y => ?_) (fun y => ?_)
      · have hk' : k = sc := by omega
        subst hk'
        refine bc_light2 (fun g hg => by have := w1 g hg; omega) (fun r r' hp => ?_)
        have hU : ∀ s, s < 7 → ((fun s => decide (0 < wt s)) s = true ↔ 0 < wt s) := fun s _ => by simp
        have hUk : ∀ j, j < k → (fun s => decide (0 < wt s)) (sy j) = true := fun j hj => by simpa using w3 j hj
        have go : ∀ bt', (∀ s, s < 7 → ¬ (fun s => decide (0 < wt s)) s = true → bt' s = 0) → (∀ s, s < 7 → bt' s ≤ 1) → ((∃ f g, f < 7 ∧ g < 7 ∧ f ≠ g ∧ 0 < wt f ∧ 0 < wt g) ∨ (∀ s, s < 7 → (fun s => decide (0 < wt s)) s = true → 0 < bt' s)) → ∃ fu, wX_findBits_96 post f0 f1 f2 (nI k) f4 fu r r' a1 a2 a3 a4 a5 a6 (bc_I sy) a8 (bc_I wt) (bc_I gr) (bc_I bt') (bc_I cd0) a13 a14 a15 := by
          intro bt' b1 b2 b3
          refine ⟨8, bc_fb96 (fun wt' gr' bt'' h1 h2 h3 => fin (fun s => decide (0 < wt s)) wt' gr' bt'' hUk h1 h2 h3) 8 _ wt gr bt' _ r r' ?_ (bc_HI_0 hU (fun g hg => by have := w1 g hg; omega) hgr b1 b2 b3) hp⟩
          have := bc_cnt_le (fun g => decide (0 < wt g)) 7
          omega
        have b0 : ∀ s, s < 7 → bt s ≤ 1 := fun s hs => by rw [hbt s hs]; omega
        rcases hp with ⟨rfl, rfl, hp⟩ | ⟨f, hf, rfl, rfl, wf, hp⟩ | ⟨f, g, hf, hg, hne, rfl, rfl, wf, wg⟩
        · refine br_t (by decide) (go bt (fun s hs _ => hbt s hs) b0 (Or.inr (fun s hs hu => ?_)))
          have := (hU s hs).mp hu
          have := hp s hs
          omega
        · refine br_f (nI_pos (by omega)) (br_f (by decide) ⟨pk_in f 7 hf, nm_r (bc_st (k := f) (x := 1) rfl rfl (by omega)) (go _ (fun s hs hu => ?_) (fun s hs => ?_) (Or.inr (fun s hs hu => ?_)))⟩)
          · have : s ≠ f := fun e => hu ((hU s hs).mpr (by rw [e]; exact wf))
            rw [bc_up_n this]
            exact hbt s hs
          · by_cases e : s = f
            · rw [e, bc_up_s]
              omega
            · rw [bc_up_n e]
              exact b0 s hs
          · have e : s = f := Classical.byContradiction (fun z => by
              have := hp s hs z
              have := (hU s hs).mp hu
              omega)
            rw [e, bc_up_s]
            omega
        · exact br_f (nI_pos (by omega)) (br_t (nI_pos' (by omega)) (go bt (fun s hs _ => hbt s hs) b0 (Or.inl ⟨f, g, hf, hg, hne, wf, wg⟩)))
      · have hs := hsy k y
        rw [bc_rd (show k < 2 ^ 31 by omega)]
        refine ⟨pk_in k 32 (by omega), pk_in (sy k) 7 hs, pk_in (sy k) 7 hs, nm_r (bc_st (k := sy k) (x := wt (sy k) + 1) rfl (by rw [bc_rd (by omega), nI_1]) (by omega)) (nm_r (nI_1 k) (ih (k + 1) _ (by omega) (by omega) (fun s hs' => ?_) (fun s hs' hw => ?_) (fun j hj => ?_)))⟩
        · have b1 := w1 s hs'
          by_cases e : s = sy k
          · rw [e, bc_up_s]
            rw [e] at b1
            omega
          · rw [bc_up_n e]
            omega
        · by_cases e : s = sy k
          · exact ⟨k, by omega, e.symm⟩
          · rw [bc_up_n e] at hw
            obtain ⟨j, hj, e'⟩ := w2 s hs' hw
            exact ⟨j, by omega, e'⟩
        · by_cases e : sy j = sy k
          · rw [e, bc_up_s]
            omega
          · rw [bc_up_n e]
            have : j ≠ k := fun z => e (by rw [z])
            exact w3 j (by omega)
  have L2 : ∀ (m i : Nat) (wt gr bt : Nat → Nat), 7 - i < m → i ≤ 7 → (∀ j, j < i → wt j = 0) → (∀ j, j < i → gr j = 2 ^ j) → (∀ j, j < i → bt j = 0) → wX_findBits_2 post f0 f1 f2 (nI sc) f4 m (nI i) a1 a2 a3 a4 a5 a6 (bc_I sy) a8 (bc_I wt) (bc_I gr) (bc_I bt) (bc_I cd0) a13 a14 a15 := by
    intro m
    induction m with
    | zero => intro i wt gr bt h; omega
    | succ m ih =>
      intro i wt gr bt h hi h1 h2 h3
      refine pk_le 7 i (fun y => ?_) (fun y => ⟨pk_in i 7 y, nm_r (bc_st (k := i) (x := 0) rfl rfl (by omega)) ⟨pk_in i 7 y, nm_r (bc_st (k := i) (x := 2 ^ i) rfl (bc_sh1 (by omega)) (by omega)) ⟨pk_in i 7 y, nm_r (bc_st (k := i) (x := 0) rfl rfl (by omega)) (nm_r (nI_1 i) ?_)⟩⟩⟩)
      · refine ⟨sc + 1, L39 gr bt (fun g hg => h2 g (by omega)) (fun g hg => h3 g (by omega)) (sc + 1) 0 wt (by omega) (by omega) (fun s hs => ?_) (fun s hs hw => ?_) (fun j hj => absurd hj (by omega))⟩
        · rw [h1 s (by omega)]
          omega
        · rw [h1 s (by omega)] at hw
          omega
      · exact ih (i + 1) _ _ _ (by omega) (by omega) (bc_fill (f := fun _ => 0) h1) (bc_fill (f := fun j => 2 ^ j) h2) (bc_fill (f := fun _ => 0) h3)
  exact ⟨8, L2 8 0 wt0 gr0 bt0 (by omega) (by omega) (fun j hj => absurd hj (by omega)) (fun j hj => absurd hj (by omega)) (fun j hj => absurd hj (by omega))⟩
end
end
section
/-- the bits of the stream -/
def bc_S (a : Nat → Int64) (p : Nat) : Bool := (a (p / 64)).toBitVec.getLsbD (p % 64)
theorem bc_sh6 {q : Nat} (h : q < 256) : nI q >>> ((6 : Int32) &&& 31) = nI (q / 64) := pk_shrN (by omega) _ 6 (by decide)
theorem bc_and63 {q : Nat} (h : q < 256) : nI q &&& 63 = nI (q % 64) := pk_andN (by omega) 6 (by decide)
theorem bc_S_set {a : Nat → Int64} {q : Nat} (hq : q < 256) (p : Nat) :
    bc_S (vp_updL a (nI q >>> ((6 : Int32) &&& 31)).toNatClampNeg (a (nI q >>> ((6 : Int32) &&& 31)).toNatClampNeg ||| ((1 : Int64) <<< ((nI q &&& 63).toInt64 &&& 63)))) p = (bc_S a p || decide (p = q)) := by
  have hm : q % 64 < 64 := Nat.mod_lt _ (by omega)
  rw [bc_sh6 hq, bc_and63 hq, nI_clamp (by omega), show (1 : Int64) = lN 1 from rfl, wb_shl 1 hm, Nat.one_mul]
  unfold bc_S
  by_cases e : p / 64 = q / 64
  · rw [e, pk_uLs, Int64.toBitVec_or, BitVec.getLsbD_or, wb_tb, BitVec.getLsbD_ofNat, Nat.testBit_two_pow]
    have hp : p % 64 < 64 := Nat.mod_lt _ (by omega)
    congr 1
    by_cases e2 : p = q
    · simp [e2, hm]
    · have : ¬ q % 64 = p % 64 := by omega
      simp [e2, this]
  · rw [pk_uLn e]
    have : ¬ p = q := fun z => e (by rw [z])
    simp [this]
theorem bc_rdbit {a : Nat → Int64} {q : Nat} (hq : q < 256) :
    (((a (nI q >>> ((6 : Int32) &&& 31)).toNatClampNeg).toUInt64 >>> ((nI q &&& 63).toInt64.toUInt64 &&& Int64.toUInt64 63)).toInt64 &&& 1).toInt32 = nI (if bc_S a q = true then 1 else 0) := by
  have hm : q % 64 < 64 := Nat.mod_lt _ (by omega)
  rw [bc_sh6 hq, bc_and63 hq, nI_clamp (by omega)]
  unfold bc_S
  obtain ⟨N, hN, e⟩ := wb_of (a (q / 64))
  rw [e, wb_bit hN hm, lN_i, wb_tb, BitVec.getLsbD_ofNat, Nat.testBit_eq_decide_div_mod_eq]
  have h2 : N / 2 ^ (q % 64) % 2 = 0 ∨ N / 2 ^ (q % 64) % 2 = 1 := by omega
  rcases h2 with h2 | h2
  · rw [h2]
    simp
  · rw [h2]
    simp [hm]
/-- the first q bits of the stream are the symbols' codes -/
def bc_str (bt cd sy : Nat → Nat) (q : Nat) (S : Nat → Bool) : Prop := ∀ k d, d < bt (sy k) → bc_ps bt sy k + d < q → S (bc_ps bt sy k + d) = (cd (sy k)).testBit (bt (sy k) - 1 - d)
theorem bc_str_s {bt cd sy : Nat → Nat} {S S' : Nat → Bool} {k d : Nat} (hd : d < bt (sy k)) (h : bc_str bt cd sy (bc_ps bt sy k + d) S)
    (h1 : S' (bc_ps bt sy k + d) = (cd (sy k)).testBit (bt (sy k) - 1 - d)) (h2 : ∀ p, p < bc_ps bt sy k + d → S' p = S p) : bc_str bt cd sy (bc_ps bt sy k + d + 1) S' := by
  intro k' d' hd' hlt
  by_cases e : bc_ps bt sy k' + d' = bc_ps bt sy k + d
  · have ek : k' = k := by
      rcases Nat.lt_trichotomy k' k with z | z | z
      · have := bc_ps_mono (bt := bt) (L := sy) (show k' + 1 ≤ k from z)
        rw [bc_ps_s] at this
        omega
      · exact z
      · have := bc_ps_mono (bt := bt) (L := sy) (show k + 1 ≤ k' from z)
        rw [bc_ps_s] at this
        omega
    subst ek
    have : d' = d := by omega
    subst this
    exact h1
  · rw [h2 _ (by omega)]
    exact h k' d' hd' (by omega)
section
variable {post : St2 → Prop} {f0 f1 f2 f3 f4 : Int32} {a1 a2 a3 a4 a5 a6 a7 a8 a9 a10 a11 a12 : Nat → Int32} {a13 : Nat → Int64} {a14 a15 : Nat → Int32}
theorem bc_p1 (x : Int32) : x + (-1) = x - 1 := (Int32.sub_eq_add_neg x 1).symm
theorem bc_wb51 {J : Int32 → Int32 → (Nat → Int32) → (Nat → Int32) → (Nat → Int32) → (Nat → Int32) → (Nat → Int32) → (Nat → Int32) → (Nat → Int32) → (Nat → Int32) → (Nat → Int32) → (Nat → Int32) → (Nat → Int32) → (Nat → Int32) → (Nat → Int64) → (Nat → Int32) → (Nat → Int32) → Prop} {bt cd sy : Nat → Nat} {k : Nat} (hk : k < 32) (hs : sy k < 7) (hcd : cd (sy k) < 2 ^ 31) (hb7 : bt (sy k) ≤ 7) (hps : bc_ps bt sy k ≤ 7 * k)
    (H : ∀ a13, bc_str bt cd sy (bc_ps bt sy (k + 1)) (bc_S a13) → (∀ p, bc_ps bt sy (k + 1) ≤ p → p < 256 → bc_S a13 p = false) → J (nI (k + 1)) (nI (bc_ps bt sy (k + 1))) a1 a2 a3 a4 a5 a6 (bc_I sy) a8 a9 a10 (bc_I bt) (bc_I cd) a13 a14 a15) :
    ∀ (m j : Nat) (a13 : Nat → Int64), j < m → j ≤ bt (sy k) → bc_str bt cd sy (bc_ps bt sy k + (bt (sy k) - j)) (bc_S a13) → (∀ p, bc_ps bt sy k + (bt (sy k) - j) ≤ p → p < 256 → bc_S a13 p = false) →
      wX_writeBits_51 post J (nI k) (nI (sy k)) f0 f1 f2 f3 m (nI j - 1) (nI (bc_ps bt sy k + (bt (sy k) - j))) a1 a2 a3 a4 a5 a6 (bc_I sy) a8 a9 a10 (bc_I bt) (bc_I cd) a13 a14 a15 := by
  intro m
  induction m with
  | zero => intro j a13 h; omega
  | succ m ih =>
    intro j a13 h hj h1 h2
    by_cases z : j = 0
    · subst z
      rw [Nat.sub_zero] at h1 h2 ⊢
      exact br_t (by decide) (nm_r (nI_1 k) (H a13 h1 h2))
    · have ej : bc_ps bt sy k + (bt (sy k) - (j - 1)) = bc_ps bt sy k + (bt (sy k) - j) + 1 := by omega
      have eb : bt (sy k) - 1 - (bt (sy k) - j) = j - 1 := by omega
      have hq : bc_ps bt sy k + (bt (sy k) - j) < 256 := by omega
      have nx : ∀ a13', bc_S a13' (bc_ps bt sy k + (bt (sy k) - j)) = (cd (sy k)).testBit (j - 1) → (∀ p, p ≠ bc_ps bt sy k + (bt (sy k) - j) → bc_S a13' p = bc_S a13 p) →
          wX_writeBits_92 post J (wX_writeBits_51 post J (nI k) (nI (sy k)) f0 f1 f2 f3 m) (nI k) (nI (sy k)) (nI (j - 1)) f0 f1 f2 f3 (nI (bc_ps bt sy k + (bt (sy k) - j))) a1 a2 a3 a4 a5 a6 (bc_I sy) a8 a9 a10 (bc_I bt) (bc_I cd) a13' a14 a15 := by
        intro a13' e1 e2
        refine nm_r (nI_1 _) (nm_r (bc_p1 _) ?_)
        have g := ih (j - 1) a13' (by omega) (by omega) (by rw [ej]; exact bc_str_s (by omega) h1 (by rw [eb]; exact e1) (fun p hp => e2 p (by omega))) (fun p hp hp' => by rw [e2 p (by omega)]; exact h2 p (by omega) hp')
        rw [ej] at g
        exact g
      rw [bc_s1 (by omega)]
      refine br_f (nI_pos (by omega)) ⟨pk_in (sy k) 7 hs, ?_⟩
      rw [bc_rd (show sy k < 2 ^ 31 by omega), bc_bit hcd (show j - 1 < 32 by omega)]
      have t := bc_tb (cd (sy k)) (j - 1)
      have hz := h2 _ (Nat.le_refl _) hq
      refine pk_eq (cd (sy k) / 2 ^ (j - 1) % 2) 0 (fun y => nx a13 ?_ (fun p _ => rfl)) (fun y => ⟨?_, ?_, nm_e (nx _ ?_ (fun p hp => ?_))⟩)
      · rw [hz]
        symm
        apply Bool.eq_false_iff.mpr
        intro w
        have := t.mp w
        omega
      · rw [bc_sh6 hq]
        exact pk_in ((bc_ps bt sy k + (bt (sy k) - j)) / 64) 4 (by omega)
      · rw [bc_sh6 hq]
        exact pk_in ((bc_ps bt sy k + (bt (sy k) - j)) / 64) 4 (by omega)
      · rw [bc_S_set hq, t.mpr (by have := Nat.mod_lt (cd (sy k) / 2 ^ (j - 1)) (show 0 < 2 by omega); omega)]
        simp
      · rw [bc_S_set hq]
        simp [hp]
theorem bc_write {bt cd sy : Nat → Nat} {sc : Nat} (hsc : sc ≤ 32) (hsy : ∀ k, k < sc → sy k < 7) (hb0 : ∀ k, k < sc → 0 < bt (sy k)) (hb7 : ∀ s, s < 7 → bt s ≤ 7) (hpc : bc_pc bt cd)
    (H : ∀ a13, bc_str bt cd sy (bc_ps bt sy sc) (bc_S a13) → post (f0, f1, f2, nI sc, nI (bc_ps bt sy sc), a1, a2, a3, a4, a5, a6, bc_I sy, a8, a9, a10, bc_I bt, bc_I cd, a13, a14, a15)) : wpX_writeBits post (f0, f1, f2, nI sc, f4, a1, a2, a3, a4, a5, a6, bc_I sy, a8, a9, a10, bc_I bt, bc_I cd, a13, a14, a15) := by
  have L27 : ∀ (m k : Nat) (a13 : Nat → Int64), sc - k < m → k ≤ sc → bc_str bt cd sy (bc_ps bt sy k) (bc_S a13) → (∀ p, bc_ps bt sy k ≤ p → p < 256 → bc_S a13 p = false) → wX_writeBits_27 post f0 f1 f2 (nI sc) m (nI k) (nI (bc_ps bt sy k)) a1 a2 a3 a4 a5 a6 (bc_I sy) a8 a9 a10 (bc_I bt) (bc_I cd) a13 a14 a15 := by
    intro m
    induction m with
    | zero => intro k a13 h; omega
    | succ m ih =>
      intro k a13 h hk h1 h2
      refine pk_le sc k (fun y => ?_) (fun y => ?_)
      · have : k = sc := by omega
        subst this
        exact H a13 h1
      · have hs := hsy k y
        have hb := hb7 _ hs
        have hc := (hpc.1 _ hs (hb0 k y)).2
        have hc2 : 2 ^ bt (sy k) ≤ 2 ^ 7 := Nat.pow_le_pow_right (by omega) hb
        have hps : bc_ps bt sy k ≤ 7 * k := bc_ps_le (fun i hi => hb7 _ (hsy i (by omega)))
        refine ⟨pk_in k 32 (by omega), nm_r (bc_rd (by omega)) ⟨pk_in (sy k) 7 hs, nm_r (e' := nI (bt (sy k)) - 1) (by rw [bc_rd (by omega)]) ⟨8, ?_⟩⟩⟩
        have g := bc_wb51 (post := post) (f0 := f0) (f1 := f1) (f2 := f2) (f3 := nI sc) (a1 := a1) (a2 := a2) (a3 := a3) (a4 := a4) (a5 := a5) (a6 := a6) (a8 := a8) (a9 := a9) (a10 := a10) (a14 := a14) (a15 := a15) (J := wX_writeBits_27 post f0 f1 f2 (nI sc) m) (by omega : k < 32) hs (by omega) hb hps (fun a13' e1 e2 => ih (k + 1) a13' (by omega) (by omega) e1 e2) 8 (bt (sy k)) a13 (by omega) (by omega) (by rw [Nat.sub_self]; exact h1) (by rw [Nat.sub_self]; exact h2)
        rw [Nat.sub_self, Nat.add_zero] at g
        exact g
  have L7 : ∀ (m i : Nat) (a13 : Nat → Int64), 4 - i < m → i ≤ 4 → (∀ j, j < i → a13 j = 0) → wX_writeBits_7 post f0 f1 f2 (nI sc) 0 m (nI i) a1 a2 a3 a4 a5 a6 (bc_I sy) a8 a9 a10 (bc_I bt) (bc_I cd) a13 a14 a15 := by
    intro m
    induction m with
    | zero => intro i a13 h; omega
    | succ m ih =>
      intro i a13 h hi hz
      refine pk_le 4 i (fun y => ?_) (fun y => ⟨pk_in i 4 y, nm_e (nm_r (nI_1 i) (ih (i + 1) _ (by omega) (by omega) (fun j hj => ?_)))⟩)
      · have zero : ∀ p, p < 256 → bc_S a13 p = false := by
          intro p hp
          unfold bc_S
          rw [hz (p / 64) (by omega)]
          exact BitVec.getLsbD_zero
        exact ⟨sc + 1, L27 (sc + 1) 0 a13 (by omega) (by omega) (fun k d hd hlt => absurd hlt (Nat.not_lt_zero _)) (fun p _ hp => zero p hp)⟩
      · rw [nI_clamp (by omega)]
        by_cases e : j = i
        · rw [e, pk_uLs]
        · rw [pk_uLn e]
          exact hz j (by omega)
  exact ⟨5, L7 5 0 a13 (by omega) (by omega) (fun j hj => absurd hj (by omega))⟩
end
end
section
section
variable {post : Int32 → St2 → Prop} {f0 f1 f2 f3 f4 : Int32} {a1 a2 a3 a4 a5 a6 a7 a8 a9 a10 a11 a12 : Nat → Int32} {a13 : Nat → Int64} {a14 a15 : Nat → Int32}
theorem bc_with {post : Int32 → Prop} {bt cd : Nat → Nat} {b c : Nat} (hb : b < 2 ^ 31) (hc : c < 2 ^ 31) (hbt : ∀ s, s < 7 → bt s < 2 ^ 31) (hcd : ∀ s, s < 7 → bt s = b → cd s < 2 ^ 31)
    (H3 : (∀ s, s < 7 → bt s = b → cd s ≠ c) → post (-3)) (H : ∀ s, s < 7 → bt s = b → cd s = c → post (nI s)) : wpX_symbolWith post (f0, f1, f2, f3, f4, a1, a2, a3, a4, a5, a6, a7, a8, a9, a10, bc_I bt, bc_I cd, a13, a14, a15) (nI b) (nI c) := by
  have L : ∀ (m i : Nat), 7 - i < m → i ≤ 7 → (∀ s, s < i → bt s = b → cd s ≠ c) → wX_symbolWith_2 post (nI b) (nI c) f0 f1 f2 f3 f4 a1 a2 a3 a4 a5 a6 a7 a8 a9 a10 (bc_I bt) (bc_I cd) a13 a14 a15 m (nI i) := by
    intro m
    induction m with
    | zero => intro i h; omega
    | succ m ih =>
      intro i h hi hh
      refine pk_le 7 i (fun y => H3 (fun s hs => hh s (by omega))) (fun y => ⟨pk_in i 7 y, ?_⟩)
      rw [bc_rd (show i < 2 ^ 31 by omega), bc_rd (show i < 2 ^ 31 by omega)]
      have hbi := hbt i y
      have nx : ¬ (bt i = b ∧ cd i = c) → wX_symbolWith_2 post (nI b) (nI c) f0 f1 f2 f3 f4 a1 a2 a3 a4 a5 a6 a7 a8 a9 a10 (bc_I bt) (bc_I cd) a13 a14 a15 m (nI (i + 1)) := by
        intro hn
        refine ih (i + 1) (by omega) (by omega) (fun s hs e1 e2 => ?_)
        by_cases e : s = i
        · subst e
          exact hn ⟨e1, e2⟩
        · exact hh s (by omega) e1 e2
      refine pk_eq (bt i) b (fun e => ⟨pk_in i 7 y, ?_⟩) (fun e => nm_r (nI_1 i) (nx (fun z => e z.1)))
      have hci := hcd i y e
      exact pk_eq (cd i) c (fun e2 => H i y e e2) (fun e2 => nm_r (nI_1 i) (nx (fun z => e2 z.2)))
  exact ⟨8, L 8 0 (by omega) (by omega) (fun s hs => absurd hs (by omega))⟩
theorem bc_readS {bt cd sy : Nat → Nat} {sc : Nat} (hsc : sc ≤ 32) (hsy : ∀ k, k < sc → sy k < 7) (hb0 : ∀ k, k < sc → 0 < bt (sy k)) (hb7 : ∀ s, s < 7 → bt s ≤ 7) (hpc : bc_pc bt cd) (hstr : bc_str bt cd sy (bc_ps bt sy sc) (bc_S a13))
    (H : ∀ bk, (∀ j, j < sc → bk j = sy j) → post (nI sc) (f0, f1, f2, f3, nI (bc_ps bt sy sc), a1, a2, a3, a4, a5, a6, a7, a8, a9, a10, bc_I bt, bc_I cd, a13, bc_I bk, a15)) : wpX_readSymbols post (f0, f1, f2, f3, nI (bc_ps bt sy sc), a1, a2, a3, a4, a5, a6, a7, a8, a9, a10, bc_I bt, bc_I cd, a13, a14, a15) := by
  obtain ⟨bk0, rfl⟩ := bc_of a14
  have hps : bc_ps bt sy sc ≤ 7 * sc := bc_ps_le (fun i hi => hb7 _ (hsy i hi))
  have L : ∀ (m k j c : Nat) (bk : Nat → Nat), bc_ps bt sy sc - (bc_ps bt sy k + j) < m → k ≤ sc → (k < sc → j < bt (sy k) ∧ c = cd (sy k) / 2 ^ (bt (sy k) - j)) → (k = sc → j = 0) → (∀ i, i < k → bk i = sy i) →
      wX_readSymbols_9 post f0 f1 f2 f3 (nI (bc_ps bt sy sc)) m (nI k) (nI j) (nI c) (nI (bc_ps bt sy k + j)) a1 a2 a3 a4 a5 a6 a7 a8 a9 a10 (bc_I bt) (bc_I cd) a13 (bc_I bk) a15 := by
    intro m
    induction m with
    | zero => intro k j c bk h; omega
    | succ m ih =>
      intro k j c bk h hk h1 h2 h3
      by_cases e : k = sc
      · have := h2 e
        subst this
        subst e
        exact br_t (nI_le (by omega) (by omega)) (H bk h3)
      · have hk' : k < sc := by omega
        obtain ⟨hj, hc⟩ := h1 hk'
        have hs := hsy k hk'
        have hb := hb7 _ hs
        have hc2 := (hpc.1 _ hs (hb0 k hk')).2
        have hp7 : 2 ^ bt (sy k) ≤ 2 ^ 7 := Nat.pow_le_pow_right (by omega) hb
        have hm := bc_ps_mono (bt := bt) (L := sy) (show k + 1 ≤ sc from hk')
        rw [bc_ps_s] at hm
        have hq : bc_ps bt sy k + j < 256 := by omega
        have hcl : c ≤ cd (sy k) := by
          rw [hc]
          exact Nat.div_le_self _ _
        refine pk_le (bc_ps bt sy sc) (bc_ps bt sy k + j) (fun y => absurd y (by omega)) (fun y => ?_)
        have hS := hstr k j hj y
        have hrd : (2 : Int32) * nI c + nI (if bc_S a13 (bc_ps bt sy k + j) = true then 1 else 0) = nI (cd (sy k) / 2 ^ (bt (sy k) - (j + 1))) := by
          rw [show (2 : Int32) = nI 2 from rfl, pk_mul, nI_add, hS, hc, bc_read _ _ _ hj]
        refine ⟨by rw [bc_sh6 hq]; exact pk_in ((bc_ps bt sy k + j) / 64) 4 (by omega), nm_r (e' := nI (cd (sy k) / 2 ^ (bt (sy k) - (j + 1)))) (by rw [bc_rdbit hq]; exact hrd) (nm_r (nI_1 j) ?_)⟩
        have hdl : cd (sy k) / 2 ^ (bt (sy k) - (j + 1)) ≤ cd (sy k) := Nat.div_le_self _ _
        refine bc_with (by omega) (by omega) (fun s hs => by have := hb7 s hs; omega) (fun s hs' e => ?_) (fun hno => ?_) (fun s hs' e1 e2 => ?_)
        · have := (hpc.1 s hs' (by omega)).2
          have : 2 ^ bt s ≤ 2 ^ 7 := Nat.pow_le_pow_right (by omega) (hb7 s hs')
          omega
        · have hj1 : j + 1 < bt (sy k) := by
            apply Classical.byContradiction
            intro hz
            have ez : bt (sy k) = j + 1 := by omega
            have := hno (sy k) hs ez
            rw [ez, Nat.sub_self, Nat.pow_zero, Nat.div_one] at this
            exact this rfl
          refine br_f (by decide) (nm_r (nI_1 _) ?_)
          exact ih k (j + 1) _ bk (by omega) hk (fun _ => ⟨hj1, rfl⟩) (fun z => absurd z e) h3
        · have es : s = sy k := by
            apply Classical.byContradiction
            intro hz
            have := hpc.2 (sy k) s hs hs' (fun w => hz w.symm) (by omega) (by omega)
            rw [e1] at this
            exact this e2
          subst es
          refine br_t (nI_pos' (by omega)) ⟨pk_in k 32 (by omega), nm_r (bc_st8 rfl rfl (by omega) (by omega)) (nm_r (nI_1 k) (nm_r (nI_1 _) ?_))⟩
          have g := ih (k + 1) 0 0 (bc_up bk k (sy k)) (by rw [bc_ps_s]; omega) (by omega) (fun hk1 => ⟨hb0 _ hk1, ?_⟩) (fun _ => rfl) (bc_fill h3)
          · rw [bc_ps_s, e1, Nat.add_zero] at g
            rw [Nat.add_assoc]
            exact g
          · rw [Nat.sub_zero]
            exact (Nat.div_eq_of_lt (hpc.1 _ (hsy _ hk1) (hb0 _ hk1)).2).symm
  refine ⟨bc_ps bt sy sc + 1, L (bc_ps bt sy sc + 1) 0 0 0 bk0 (by omega) (by omega) (fun h0 => ⟨hb0 0 h0, ?_⟩) (fun _ => rfl) (fun i hi => absurd hi (by omega))⟩
  rw [Nat.sub_zero]
  exact (Nat.div_eq_of_lt (hpc.1 _ (hsy _ h0) (hb0 _ h0)).2).symm
end
end
section
section
variable {post : St2 → Prop} {f0 f1 f2 f3 f4 : Int32} {a1 a2 a3 a4 a5 a6 a7 a8 a9 a10 a11 a12 : Nat → Int32} {a13 : Nat → Int64} {a14 a15 : Nat → Int32}
theorem bc_drop {Y : List Nat} {k : Nat} (h : k < Y.length) : Y.drop k = Y.getD k 0 :: Y.drop (k + 1) := by
  rw [List.drop_eq_getElem_cons h, List.getD_eq_getElem?_getD, List.getElem?_eq_getElem h]
  rfl
theorem bc_ur58 {post : Int32 → St2 → Prop} {J : Int32 → Int32 → Int32 → (Nat → Int32) → (Nat → Int32) → (Nat → Int32) → (Nat → Int32) → (Nat → Int32) → (Nat → Int32) → (Nat → Int32) → (Nat → Int32) → (Nat → Int32) → (Nat → Int32) → (Nat → Int32) → (Nat → Int32) → (Nat → Int64) → (Nat → Int32) → (Nat → Int32) → Prop} {st : Nat → Nat} {x1 : Int32} {c w k z n : Nat} {rk : Nat → Nat} (hn : n ≤ 32) (hz : c + z ≤ n) (hzero : ∀ i, i < z → rk (c + i) = 0)
    (H : ∀ st, (∀ j, j < c + z → st j = rk j) → J (nI (c + z)) (nI (w * 2)) (nI (k + 1)) a1 a2 a3 a4 a5 a6 a7 a8 a9 a10 a11 a12 a13 a14 (bc_I st)) :
    ∀ (m i : Nat) (st : Nat → Nat), z - i < m → i ≤ z → (∀ j, j < c + i → st j = rk j) → wX_undoRuns_58 post J x1 (nI c) (nI w) (nI k) (nI z) f0 f1 f2 f3 f4 m (nI i) a1 a2 a3 a4 a5 a6 a7 a8 a9 a10 a11 a12 a13 a14 (bc_I st) := by
  intro m
  induction m with
  | zero => intro i st h; omega
  | succ m ih =>
    intro i st h hi hh
    refine pk_le z i (fun y => nm_r (nI_add c z) (nm_r (pk_mul w 2) (nm_r (nI_1 k) (H st (fun j hj => hh j (by omega)))))) (fun y => ?_)
    rw [nI_add]
    refine ⟨pk_in (c + i) 32 (by omega), nm_r (bc_st (k := c + i) (x := 0) rfl rfl (by omega)) (nm_r (nI_1 i) (ih (i + 1) _ (by omega) (by omega) (fun j hj => ?_)))⟩
    by_cases e : j = c + i
    · rw [e, bc_up_s, hzero i y]
    · rw [bc_up_n e]
      exact hh j (by omega)
theorem bc_undoRuns {post : Int32 → St2 → Prop} {Y : List Nat} {bk rk : Nat → Nat} {n : Nat} (hn : n ≤ 32) (hY : Y.length ≤ 32) (hbk : ∀ j, j < Y.length → bk j = Y.getD j 0) (h7 : ∀ j, j < Y.length → bk j < 7) (hdc : bc_ls rk 0 n = bc_dc 1 Y)
    (H : ∀ st, (∀ j, j < n → st j = rk j) → post (nI n) (f0, f1, f2, f3, f4, a1, a2, a3, a4, a5, a6, a7, a8, a9, a10, a11, a12, a13, bc_I bk, bc_I st)) : wpX_undoRuns post (f0, f1, f2, f3, f4, a1, a2, a3, a4, a5, a6, a7, a8, a9, a10, a11, a12, a13, bc_I bk, a15) (nI Y.length) := by
  obtain ⟨st0, rfl⟩ := bc_of a15
  have L : ∀ (m k c w : Nat) (st : Nat → Nat), Y.length - k < m → k ≤ Y.length → c ≤ n → w ≤ 64 → (∀ j, j < c → st j = rk j) → bc_ls rk c (n - c) = bc_dc w (Y.drop k) → wX_undoRuns_7 post (nI Y.length) f0 f1 f2 f3 f4 m (nI c) (nI w) (nI k) a1 a2 a3 a4 a5 a6 a7 a8 a9 a10 a11 a12 a13 (bc_I bk) (bc_I st) := by
    intro m
    induction m with
    | zero => intro k c w st h; omega
    | succ m ih =>
      intro k c w st h hk hc hw hst hl
      refine pk_le Y.length k (fun y => ?_) (fun y => ?_)
      · rw [List.drop_eq_nil_of_le y, bc_dc_nil] at hl
        have e : (bc_ls rk c (n - c)).length = 0 := by rw [hl]; rfl
        rw [bc_ls_len] at e
        have : c = n := by omega
        subst this
        exact H st hst
      · have h7k := h7 k y
        rw [bc_drop y, ← hbk k y] at hl
        refine ⟨pk_in k 32 (by omega), nm_r (bc_rd (by omega)) ?_⟩
        refine pk_le (bk k) 1 (fun z => ?_) (fun z => ?_)
        · rw [bc_dc_lo _ _ (by omega)] at hl
          obtain ⟨g1, g2, g3⟩ := bc_ls_zeros _ _ _ hl
          have gw : w ≤ w * (bk k + 1) := Nat.le_mul_of_pos_right w (by omega)
          refine nm_r (e' := nI (w * (bk k + 1))) (by rw [nI_1, pk_mul]) ⟨w * (bk k + 1) + 1, ?_⟩
          refine bc_ur58 (rk := rk) (st := st) hn (by omega) g2 (fun st' hst' => ?_) _ 0 st (by omega) (by omega) (fun j hj => hst j (by omega))
          refine ih (k + 1) _ _ st' (by omega) (by omega) (by omega) (by omega) hst' ?_
          rw [show n - (c + w * (bk k + 1)) = n - c - w * (bk k + 1) by omega]
          exact g3
        · rw [bc_dc_hi _ _ z] at hl
          have hc' : c < n := by
            apply Classical.byContradiction
            intro hz
            have e : (bc_ls rk c (n - c)).length = 0 := by rw [bc_ls_len]; omega
            rw [hl, List.length_cons] at e
            omega
          rw [show n - c = (n - (c + 1)) + 1 by omega, bc_ls_s] at hl
          injection hl with l1 l2
          refine ⟨pk_in c 32 (by omega), nm_r (bc_st8 (x := rk c) rfl (by rw [l1, bc_s1 (by omega)]) (by omega) (by omega)) (nm_r (nI_1 c) (nm_r (nI_1 k) ?_))⟩
          exact ih (k + 1) (c + 1) 1 _ (by omega) (by omega) (by omega) (by omega) (bc_fill hst) l2
  exact ⟨Y.length + 1, L (Y.length + 1) 0 0 1 st0 (by omega) (by omega) (by omega) (by omega) (fun j hj => absurd hj (by omega)) hdc⟩
theorem bc_undoRanks {col st : Nat → Nat} {n : Nat} (hn : n ≤ 32) (hc : ∀ j, j < n → col j < 6) (hst : ∀ j, j < n → st j = bc_pos col j (col j))
    (H : ∀ bk r, (∀ j, j < n → bk j = col j) → post (f0, f1, f2, f3, f4, a1, a2, a3, a4, a5, a6, a7, bc_I r, a9, a10, a11, a12, a13, bc_I bk, bc_I st)) : wpX_undoRanks post (f0, f1, f2, f3, f4, a1, a2, a3, a4, a5, a6, a7, a8, a9, a10, a11, a12, a13, a14, bc_I st) (nI n) := by
  obtain ⟨bk0, rfl⟩ := bc_of a14
  have L : ∀ (m k : Nat) (bk r : Nat → Nat), n - k < m → k ≤ n → (∀ j, j < k → bk j = col j) → bc_Row col k r → wX_undoRanks_6 post (nI n) m (nI k) f0 f1 f2 f3 f4 a1 a2 a3 a4 a5 a6 a7 (bc_I r) a9 a10 a11 a12 a13 (bc_I bk) (bc_I st) := by
    intro m
    induction m with
    | zero => intro k bk r h; omega
    | succ m ih =>
      intro k bk r h hk hbk hr
      refine pk_le n k (fun y => H bk r (fun j hj => hbk j (by omega))) (fun y => ?_)
      have h0 := hc k y
      have hp := bc_pos_lt (col := col) (k := k) h0
      refine ⟨pk_in k 32 (by omega), nm_r (e' := nI (bc_pos col k (col k))) (by rw [bc_rd (by omega), hst k y]) ⟨pk_in _ 6 hp, pk_in k 32 (by omega), nm_r (bc_stn (k := k) (x := col k) rfl (by rw [bc_rd (by omega), bc_Row_at (by omega) hr h0]) (by omega) (by omega)) ?_⟩⟩
      refine bc_frontR (by omega) h0 hr (fun r' hr' => nm_r (nI_1 k) ?_)
      exact ih (k + 1) _ r' (by omega) (by omega) (bc_fill hbk) hr'
  unfold wpX_undoRanks
  refine bc_reset (fun r hr => ?_)
  exact ⟨n + 1, L (n + 1) 0 bk0 r (by omega) (by omega) (fun j hj => absurd hj (by omega)) (bc_Row_0 hr)⟩
/-- how many stand ahead of the letter l at place k -/
def bc_Q (col : Nat → Nat) (n l k : Nat) : Nat := bc_cnt (fun j => decide (col j < l ∨ (col j = l ∧ j < k))) n
theorem bc_Q_0 (col : Nat → Nat) (n : Nat) : bc_Q col n 0 0 = 0 := bc_cnt_none (fun i _ => by simp)
theorem bc_Q_n (col : Nat → Nat) (n l : Nat) : bc_Q col n l n = bc_Q col n (l + 1) 0 := by
  apply bc_cnt_congr
  intro j hj
  exact decide_eq_decide.mpr (by omega)
theorem bc_Q_ne {col : Nat → Nat} {n l k : Nat} (h : col k ≠ l) : bc_Q col n l (k + 1) = bc_Q col n l k := by
  apply bc_cnt_congr
  intro j hj
  apply decide_eq_decide.mpr
  constructor
  · rintro (z | ⟨z, z2⟩)
    · exact Or.inl z
    · refine Or.inr ⟨z, ?_⟩
      have : j ≠ k := fun e => h (by rw [← e]; exact z)
      omega
  · rintro (z | ⟨z, z2⟩)
    · exact Or.inl z
    · exact Or.inr ⟨z, by omega⟩
theorem bc_Q_eq {col : Nat → Nat} {n l k : Nat} (hk : k < n) (h : col k = l) : bc_Q col n l (k + 1) = bc_Q col n l k + 1 := by
  unfold bc_Q
  rw [bc_cnt_remove _ k n hk, if_pos (by simp [h])]
  congr 1
  apply bc_cnt_congr
  intro j hj
  by_cases e : j = k
  · subst e
    simp [h]
  · by_cases c : col j < l ∨ (col j = l ∧ j < k)
    · have c' : col j < l ∨ (col j = l ∧ j < k + 1) := by omega
      simp [c, c', e]
    · have c' : ¬ (col j < l ∨ (col j = l ∧ j < k + 1)) := by omega
      simp [c, c', e]
theorem bc_Q_D {col : Nat → Nat} {n k : Nat} (hn : n ≤ 32) (hk : k < n) : bc_rk (fun k => col k * 64 + k) n k = bc_Q col n (col k) k := by
  apply bc_cnt_congr
  intro j hj
  exact decide_eq_decide.mpr (bc_lexlt (by omega) (by omega))
theorem bc_D_inj {col : Nat → Nat} {n : Nat} (hn : n ≤ 32) : ∀ i j, i < n → j < n → (fun k => col k * 64 + k) i = (fun k => col k * 64 + k) j → i = j := by
  intro i j hi hj h
  exact (bc_lexeq (m := 64) (by omega) (by omega) h).2
theorem bc_us13 {J : Int32 → Int32 → (Nat → Int32) → (Nat → Int32) → (Nat → Int32) → (Nat → Int32) → (Nat → Int32) → (Nat → Int32) → (Nat → Int32) → (Nat → Int32) → (Nat → Int32) → (Nat → Int32) → (Nat → Int32) → (Nat → Int32) → (Nat → Int64) → (Nat → Int32) → (Nat → Int32) → Prop} {col bk : Nat → Nat} {n l : Nat} (hn : n ≤ 32) (hl : l < 6) (hc : ∀ j, j < n → col j < 6) (hbk : ∀ j, j < n → bk j = col j)
    (H : ∀ st, (∀ j, j < n → col j < l + 1 → st (bc_rk (fun k => col k * 64 + k) n j) = j) → J (nI (bc_Q col n (l + 1) 0)) (nI (l + 1)) a1 a2 a3 a4 a5 a6 a7 a8 a9 a10 a11 a12 a13 (bc_I bk) (bc_I st)) :
    ∀ (m k : Nat) (st : Nat → Nat), n - k < m → k ≤ n → (∀ j, j < n → (col j < l ∨ (col j = l ∧ j < k)) → st (bc_rk (fun k => col k * 64 + k) n j) = j) → wX_undoSorting_13 post J (nI n) (nI l) f0 f1 f2 f3 f4 m (nI (bc_Q col n l k)) (nI k) a1 a2 a3 a4 a5 a6 a7 a8 a9 a10 a11 a12 a13 (bc_I bk) (bc_I st) := by
  intro m
  induction m with
  | zero => intro k st h; omega
  | succ m ih =>
    intro k st h hk hh
    refine pk_le n k (fun y => ?_) (fun y => ⟨pk_in k 32 (by omega), ?_⟩)
    · have : k = n := by omega
      subst this
      rw [bc_Q_n]
      exact nm_r (nI_1 l) (H st (fun j hj hcj => hh j hj (by omega)))
    · have hck := hc k y
      rw [bc_rd (show k < 2 ^ 31 by omega), hbk k y]
      refine pk_eq (col k) l (fun e => ?_) (fun e => nm_r (nI_1 k) ?_)
      · have hD := bc_Q_D (col := col) hn y
        rw [e] at hD
        have hDl := bc_rk_lt (G := fun k => col k * 64 + k) y
        have g := ih (k + 1) (bc_up st (bc_Q col n l k) k) (by omega) (by omega) (fun j hj hcj => ?_)
        · rw [bc_Q_eq y e] at g
          exact ⟨pk_in (bc_Q col n l k) 32 (by omega), nm_r (bc_st8 rfl rfl (by omega) (by omega)) (nm_r (nI_1 _) (nm_r (nI_1 k) g))⟩
        · by_cases ej : j = k
          · rw [ej, hD, bc_up_s]
          · rw [bc_up_n]
            · exact hh j hj (by omega)
            · intro z
              rw [← hD] at z
              exact ej (bc_rk_inj (bc_D_inj hn) hj y z)
      · have g := ih (k + 1) st (by omega) (by omega) (fun j hj hcj => hh j hj ?_)
        · rw [bc_Q_ne e] at g
          exact g
        · rcases hcj with z | ⟨z, z2⟩
          · exact Or.inl z
          · refine Or.inr ⟨z, ?_⟩
            have : j ≠ k := fun w => e (by rw [← w]; exact z)
            omega
theorem bc_us90 {T o nc st : Nat → Nat} {n mk : Nat} (hn : n ≤ 32) (h6 : ∀ i, T i < 6) (hT : ∀ i, T (i + n) = T i) (ho : bc_ord T n o) (hnc : ∀ j, j < n → nc j = T (o j + n - 1))
    (hst : ∀ j, j < n → st (bc_rk (fun k => T (o k + n - 1) * 64 + k) n j) = j)
    (H : ∀ bk, (∀ j, j < n → bk j = T j) → post (f0, f1, nI mk, f3, f4, a1, a2, a3, bc_I nc, a5, a6, a7, a8, a9, a10, a11, a12, a13, bc_I bk, bc_I st)) :
    ∀ (m k p : Nat) (bk : Nat → Nat), n - k < m → k ≤ n → p < n → bc_E T (o p) k → (∀ j, j < k → bk j = T j) → wX_undoSorting_90 post (nI n) f0 f1 (nI mk) f3 f4 m (nI p) (nI k) a1 a2 a3 (bc_I nc) a5 a6 a7 a8 a9 a10 a11 a12 a13 (bc_I bk) (bc_I st) := by
  intro m
  induction m with
  | zero => intro k p bk h; omega
  | succ m ih =>
    intro k p bk h hk hp hE hbk
    refine pk_le n k (fun y => H bk (fun j hj => hbk j (by omega))) (fun y => ?_)
    obtain ⟨q, hq, e⟩ := bc_rk_surj (bc_D_inj (col := fun k => T (o k + n - 1)) hn) hp
    have e' : bc_rk (fun k => T (o k + n - 1) * 64 + k) n q = p := e
    have hsp := hst q hq
    have hB := bc_back h6 hT (by omega) ho hq
    rw [e'] at hsp hB
    have hE2 : bc_E T (o q + n - 1) k := fun i => (hB i).symm.trans (hE i)
    have hTk : T (o q + n - 1) = T k := hE2 0
    have hE3 : bc_E T (o q) (k + 1) := by
      intro i
      have := bc_E_s hE2 i
      rw [show o q + n - 1 + 1 + i = o q + i + n by omega, hT] at this
      exact this
    have h6k := h6 k
    refine ⟨pk_in p 32 (by omega), nm_r (e' := nI q) (by rw [bc_rd (by omega), hsp]) ⟨pk_in q 32 (by omega), pk_in k 32 (by omega), nm_r (bc_stn (k := k) (x := T k) rfl (by rw [bc_rd (by omega), hnc q hq, hTk]) (by omega) (by omega)) (nm_r (nI_1 k) ?_)⟩⟩
    exact ih (k + 1) q _ (by omega) (by omega) hq hE3 (bc_fill hbk)
theorem bc_undoSort {T o bk : Nat → Nat} {n mk : Nat} (hn : n ≤ 32) (h6 : ∀ i, T i < 6) (hT : ∀ i, T (i + n) = T i) (ho : bc_ord T n o) (hbk : ∀ j, j < n → bk j = T (o j + n - 1)) (hmk : mk < n) (hm0 : o mk = 0)
    (H : ∀ nc bk st, (∀ j, j < n → bk j = T j) → post (f0, f1, nI mk, f3, f4, a1, a2, a3, bc_I nc, a5, a6, a7, a8, a9, a10, a11, a12, a13, bc_I bk, bc_I st)) : wpX_undoSorting post (f0, f1, nI mk, f3, f4, a1, a2, a3, a4, a5, a6, a7, a8, a9, a10, a11, a12, a13, bc_I bk, a15) (nI n) := by
  obtain ⟨st0, rfl⟩ := bc_of a15
  obtain ⟨nc0, rfl⟩ := bc_of a4
  have L59 : ∀ (st : Nat → Nat), (∀ j, j < n → st (bc_rk (fun k => T (o k + n - 1) * 64 + k) n j) = j) → ∀ (m i : Nat) (nc : Nat → Nat), n - i < m → i ≤ n → (∀ j, j < i → nc j = bk j) → wX_undoSorting_59 post (nI n) f0 f1 (nI mk) f3 f4 m (nI i) a1 a2 a3 (bc_I nc) a5 a6 a7 a8 a9 a10 a11 a12 a13 (bc_I bk) (bc_I st) := by
    intro st hst m
    induction m with
    | zero => intro i nc h; omega
    | succ m ih =>
      intro i nc h hi hnc
      refine pk_le n i (fun y => ?_) (fun y => ?_)
      · refine ⟨n + 1, bc_us90 hn h6 hT ho (fun j hj => by rw [hnc j (by omega), hbk j hj]) hst (fun bk' hbk' => H nc bk' st hbk') (n + 1) 0 mk bk (by omega) (by omega) hmk ?_ (fun j hj => absurd hj (by omega))⟩
        rw [hm0]
        exact fun i => rfl
      · have hb := hbk i y
        have h6' := h6 (o i + n - 1)
        refine ⟨pk_in i 32 (by omega), pk_in i 32 (by omega), nm_r (bc_stn (k := i) (x := bk i) rfl (bc_rd (by omega)) (by omega) (by omega)) (nm_r (nI_1 i) ?_)⟩
        exact ih (i + 1) _ (by omega) (by omega) (bc_fill hnc)
  have L4 : ∀ (m l : Nat) (st : Nat → Nat), 6 - l < m → l ≤ 6 → (∀ j, j < n → T (o j + n - 1) < l → st (bc_rk (fun k => T (o k + n - 1) * 64 + k) n j) = j) → wX_undoSorting_4 post (nI n) f0 f1 (nI mk) f3 f4 m (nI (bc_Q (fun k => T (o k + n - 1)) n l 0)) (nI l) a1 a2 a3 (bc_I nc0) a5 a6 a7 a8 a9 a10 a11 a12 a13 (bc_I bk) (bc_I st) := by
    intro m
    induction m with
    | zero => intro l st h; omega
    | succ m ih =>
      intro l st h hl hst
      refine pk_le 6 l (fun y => ?_) (fun y => ?_)
      · exact ⟨n + 1, L59 st (fun j hj => hst j hj (by have := h6 (o j + n - 1); omega)) (n + 1) 0 nc0 (by omega) (by omega) (fun j hj => absurd hj (by omega))⟩
      · refine ⟨n + 1, bc_us13 (col := fun k => T (o k + n - 1)) hn y (fun j _ => h6 _) hbk (fun st' hst' => ?_) (n + 1) 0 st (by omega) (by omega) (fun j hj hcj => hst j hj (by omega))⟩
        exact ih (l + 1) st' (by omega) (by omega) hst'
  have g := L4 7 0 st0 (by omega) (by omega) (fun j hj hz => absurd hz (by omega))
  rw [bc_Q_0] at g
  exact ⟨7, g⟩
end
end
section
theorem bc_la_congr {col col' : Nat → Nat} {k : Nat} (h : ∀ j, j < k → col j = col' j) (d : Nat) : bc_la col k d = bc_la col' k d := by
  induction k with
  | zero => rfl
  | succ k ih => rw [bc_la_s, bc_la_s, ih (fun j hj => h j (by omega)), h k (by omega)]
theorem bc_pos_congr {col col' : Nat → Nat} {k : Nat} (h : ∀ j, j < k → col j = col' j) (d : Nat) : bc_pos col k d = bc_pos col' k d := by
  have : bc_R col k = bc_R col' k := by
    funext x
    unfold bc_R
    rw [bc_la_congr h]
  unfold bc_pos
  rw [this]
theorem bc_ord_uniq {T o o' : Nat → Nat} {n : Nat} (hn : n ≤ 32) (h : bc_ord T n o) (h' : bc_ord T n o') {j : Nat} (hj : j < n) : o' j = o j := by
  have h1 := bc_ord_rk h hj
  have h2 := bc_ord_at (by omega) h' (h.1 j hj)
  rw [h1] at h2
  exact h2
/-- the column, the ranks, the symbols -/
def bc_col (T o : Nat → Nat) (n : Nat) : Nat → Nat := fun j => T (o j + n - 1)
def bc_rnk (T o : Nat → Nat) (n : Nat) : Nat → Nat := fun j => bc_pos (bc_col T o n) j (bc_col T o n j)
def bc_Y (T o : Nat → Nat) (n : Nat) : List Nat := bc_sy 0 (bc_ls (bc_rnk T o n) 0 n)
theorem bc_Y_len (T o : Nat → Nat) (n : Nat) : (bc_Y T o n).length ≤ n := by
  have := bc_sy_len (bc_ls (bc_rnk T o n) 0 n) 0
  rw [bc_ls_len, Nat.zero_add] at this
  exact this
theorem bc_rnk_lt {T o : Nat → Nat} (h6 : ∀ i, T i < 6) (n j : Nat) : bc_rnk T o n j < 6 := bc_pos_lt (h6 _)
theorem bc_Y_lt {T o : Nat → Nat} (h6 : ∀ i, T i < 6) (n : Nat) : ∀ s ∈ bc_Y T o n, s < 7 := by
  refine bc_sy_lt _ (fun r hr => ?_) 0
  obtain ⟨j, _, rfl⟩ := bc_ls_mem hr
  exact bc_rnk_lt h6 n _
theorem bc_Y_at {T o : Nat → Nat} (h6 : ∀ i, T i < 6) (n k : Nat) : (bc_Y T o n).getD k 0 < 7 := by
  rw [List.getD_eq_getElem?_getD]
  by_cases h : k < (bc_Y T o n).length
  · rw [List.getElem?_eq_getElem h]
    exact bc_Y_lt h6 n _ (List.getElem_mem h)
  · rw [List.getElem?_eq_none (by omega)]
    exact (by decide : (0 : Nat) < 7)
/-- what is known of the text -/
def bc_ctx (T : Nat → Nat) (n : Nat) (t o : Nat → Nat) : Prop := n ≤ 32 ∧ (∀ i, T i < 6) ∧ (∀ i, T (i + n) = T i) ∧ bc_ord T n o ∧ (∀ j, j < n → t j = T j)
def bc_C (T : Nat → Nat) (n : Nat) (o : Nat → Nat) (mk : Nat) (col rk sy bt cd : Nat → Nat) (a13 : Nat → Int64) : Prop :=
  (∀ j, j < n → col j = bc_col T o n j) ∧ (0 < n → mk < n ∧ o mk = 0) ∧ (∀ j, j < n → rk j = bc_rnk T o n j) ∧ bc_wr (bc_Y T o n) sy ∧ (∀ k, k < (bc_Y T o n).length → 0 < bt (sy k)) ∧ (∀ s, s < 7 → bt s ≤ 7) ∧ bc_pc bt cd ∧
  bc_str bt cd sy (bc_ps bt sy (bc_Y T o n).length) (bc_S a13)
/-- a state that is coded -/
def bc_CS (T : Nat → Nat) (n : Nat) (t o : Nat → Nat) (u : St2) : Prop := ∃ (mk : Nat) (col rk sy bt cd : Nat → Nat) (a2 a3 a4 a8 a9 a10 : Nat → Int32) (a13 : Nat → Int64) (a14 a15 : Nat → Int32),
  bc_C T n o mk col rk sy bt cd a13 ∧ u = (nI n, 1, nI mk, nI (bc_Y T o n).length, nI (bc_ps bt sy (bc_Y T o n).length), bc_I t, a2, a3, a4, bc_I col, bc_I rk, bc_I sy, a8, a9, a10, bc_I bt, bc_I cd, a13, a14, a15)
/-- a state with a text that is not coded yet -/
def bc_US (n : Nat) (t : Nat → Nat) (u : St2) : Prop := ∃ (f2 f3 f4 : Int32) (a2 a3 a4 a5 a6 a7 a8 a9 a10 a11 a12 : Nat → Int32) (a13 : Nat → Int64) (a14 a15 : Nat → Int32), u = (nI n, 0, f2, f3, f4, bc_I t, a2, a3, a4, a5, a6, a7, a8, a9, a10, a11, a12, a13, a14, a15)
def bc_XS (T : Nat → Nat) (n : Nat) (t o : Nat → Nat) (u : St2) : Prop := bc_US n t u ∨ bc_CS T n t o u
section
variable {post : St2 → Prop} {f0 f1 f2 f3 f4 : Int32} {a1 a2 a3 a4 a5 a6 a7 a8 a9 a10 a11 a12 : Nat → Int32} {a13 : Nat → Int64} {a14 a15 : Nat → Int32}
theorem bc_c24 {T t o o' : Nat → Nat} {n : Nat} (hx : bc_ctx T n t o) (ho' : ∀ j, j < n → o' j = o j) (H : ∀ u, bc_CS T n t o u → post u) :
    ∀ (m k mk : Nat) (col : Nat → Nat), n - k < m → k ≤ n → (∀ j, j < k → col j = bc_col T o n j) → (∀ j, j < k → o j = 0 → mk = j) →
      wX_code_24 post (nI n) 1 f3 f4 m (nI k) (nI mk) (bc_I t) (bc_I o') a3 a4 (bc_I col) a6 a7 a8 a9 a10 a11 a12 a13 a14 a15 := by
  obtain ⟨hn, h6, hT, ho, ht⟩ := hx
  intro m
  induction m with
  | zero => intro k mk col h; omega
  | succ m ih =>
    intro k mk col h hk hcol hmk
    refine pk_le n k (fun y => ?_) (fun y => ?_)
    · have hcol' : ∀ j, j < n → col j = bc_col T o n j := fun j hj => hcol j (by omega)
      have hc6 : ∀ j, j < n → col j < 6 := fun j hj => by rw [hcol' j hj]; exact h6 _
      refine bc_rankL hn hc6 (fun rk r hrk => ?_)
      have hrk' : ∀ j, j < n → rk j = bc_rnk T o n j := by
        intro j hj
        rw [hrk j hj, hcol' j hj]
        exact bc_pos_congr (fun i hi => hcol' i (by omega)) _
      have hrk6 : ∀ j, j < n → rk j < 6 := fun j hj => by rw [hrk' j hj]; exact bc_rnk_lt h6 n j
      refine bc_shorten hn hrk6 (fun sy hsy => ?_)
      have hls : bc_sy 0 (bc_ls rk 0 n) = bc_Y T o n := by
        unfold bc_Y
        rw [bc_ls_congr (fun j _ h2 => hrk' j (by omega))]
      rw [hls] at hsy ⊢
      have hYl := bc_Y_len T o n
      have hs7 : ∀ k, k < (bc_Y T o n).length → sy k < 7 := fun k hk => by rw [hsy k hk]; exact bc_Y_at h6 n k
      refine bc_find (by omega) hs7 (fun wt gr bt cd e1 e2 e3 => ?_)
      refine bc_write (by omega) hs7 e1 e2 e3 (fun a13' e4 => ?_)
      refine H _ ⟨mk, col, rk, sy, bt, cd, _, _, _, _, _, _, a13', _, _, ⟨hcol', fun h0 => ?_, hrk', hsy, e1, e2, e3, e4⟩, rfl⟩
      have hr := bc_rk_lt (G := bc_G T) h0
      have he := bc_ord_at (by omega) ho h0
      have := hmk _ (by omega) he
      rw [this]
      exact ⟨hr, he⟩
    · have hok := ho.1 k y
      have e : bc_I o' (nI k).toNatClampNeg = nI (o k) := by rw [bc_rd (by omega), ho' k y]
      have hcl : bc_col T o n k = T (o k + n - 1) := rfl
      have h48 : ∀ mk', (∀ j, j < k + 1 → o j = 0 → mk' = j) → wX_code_48 post (wX_code_24 post (nI n) 1 f3 f4 m) (nI k) (nI (o k)) (nI n) 1 (nI mk') f3 f4 (bc_I t) (bc_I o') a3 a4 (bc_I col) a6 a7 a8 a9 a10 a11 a12 a13 a14 a15 := by
        intro mk' hmk'
        have nx : wX_code_24 post (nI n) 1 f3 f4 m (nI (k + 1)) (nI mk') (bc_I t) (bc_I o') a3 a4 (bc_I (bc_up col k (bc_col T o n k))) a6 a7 a8 a9 a10 a11 a12 a13 a14 a15 := ih (k + 1) mk' _ (by omega) (by omega) (bc_fill hcol) hmk'
        have h6k := h6 (o k + n - 1)
        refine pk_eq (o k) 0 (fun z => ?_) (fun z => ?_)
        · rw [bc_s1 (by omega)]
          refine ⟨pk_in (n - 1) 32 (by omega), pk_in k 32 (by omega), nm_r (bc_stn (k := k) (x := bc_col T o n k) rfl ?_ (by omega) (by omega)) (nm_r (nI_1 k) nx)⟩
          rw [bc_rd (by omega), ht (n - 1) (by omega), hcl, z, Nat.zero_add]
        · rw [bc_s1 (by omega)]
          refine ⟨pk_in (o k - 1) 32 (by omega), pk_in k 32 (by omega), nm_r (bc_stn (k := k) (x := bc_col T o n k) rfl ?_ (by omega) (by omega)) (nm_r (nI_1 k) nx)⟩
          rw [bc_rd (by omega), ht (o k - 1) (by omega), hcl, show o k + n - 1 = o k - 1 + n by omega, hT]
      refine ⟨pk_in k 32 (by omega), nm_r e ?_⟩
      refine pk_eq (o k) 0 (fun z => h48 k (fun j hj hj0 => ?_)) (fun z => h48 mk (fun j hj hj0 => ?_))
      · exact bc_sorted_inj ho.2 k j y (by omega) (by rw [z, hj0])
      · have : j ≠ k := fun w => z (by rw [← w]; exact hj0)
        exact hmk j (by omega) hj0
theorem bc_codeX {T t o : Nat → Nat} {n : Nat} {u : St2} (hx : bc_ctx T n t o) (hu : bc_XS T n t o u) (H : ∀ u, bc_CS T n t o u → post u) : wpX_code post u := by
  rcases hu with ⟨f2, f3, f4, a2, a3, a4, a5, a6, a7, a8, a9, a10, a11, a12, a13, a14, a15, rfl⟩ | hu
  · obtain ⟨hn, h6, hT, ho, ht⟩ := hx
    obtain ⟨col0, rfl⟩ := bc_of a5
    refine br_t rfl (bc_sort hn h6 hT ht (fun o' c nc ho' => ?_))
    exact ⟨n + 1, bc_c24 ⟨hn, h6, hT, ho, ht⟩ (fun j hj => bc_ord_uniq hn ho ho' hj) H (n + 1) 0 0 col0 (by omega) (by omega) (fun j hj => absurd hj (by omega)) (fun j hj => absurd hj (by omega))⟩
  · have := H u hu
    obtain ⟨mk, col, rk, sy, bt, cd, a2, a3, a4, a8, a9, a10, a13, a14, a15, hC, rfl⟩ := hu
    exact br_f (by decide) this
end
end
section
section
variable {post : Int32 → St2 → Prop} {f0 f1 f2 f3 f4 : Int32} {a1 a2 a3 a4 a5 a6 a7 a8 a9 a10 a11 a12 : Nat → Int32} {a13 : Nat → Int64} {a14 a15 : Nat → Int32} {T t o : Nat → Nat} {n : Nat} {u : St2}
theorem bc_markX (hx : bc_ctx T n t o) (h0 : 0 < n) (hu : bc_XS T n t o u) (H : ∀ u, bc_CS T n t o u → post (nI (bc_rk (bc_G T) n 0)) u) : wpX_mark post u := by
  obtain ⟨f0, f1, f2, f3, f4, a1, a2, a3, a4, a5, a6, a7, a8, a9, a10, a11, a12, a13, a14, a15⟩ := u
  unfold wpX_mark
  refine bc_codeX hx hu (fun u hu => ?_)
  have g := H u hu
  obtain ⟨mk, col, rk, sy, bt, cd, a2, a3, a4, a8, a9, a10, a13, a14, a15, hC, rfl⟩ := hu
  obtain ⟨hn, h6, hT, ho, ht⟩ := hx
  have hm := hC.2.1 h0
  have e := bc_ord_rk ho hm.1
  rw [hm.2] at e
  rw [e] at g
  exact br_f (nI_ne0 h0 (by omega)) g
theorem bc_mark0 (hx : bc_ctx T 0 t o) (hu : bc_XS T 0 t o u) (H : ∀ u, bc_CS T 0 t o u → post (-3) u) : wpX_mark post u := by
  obtain ⟨f0, f1, f2, f3, f4, a1, a2, a3, a4, a5, a6, a7, a8, a9, a10, a11, a12, a13, a14, a15⟩ := u
  unfold wpX_mark
  refine bc_codeX hx hu (fun u hu => ?_)
  have g := H u hu
  obtain ⟨mk, col, rk, sy, bt, cd, a2, a3, a4, a8, a9, a10, a13, a14, a15, hC, rfl⟩ := hu
  exact br_t rfl g
theorem bc_symbolsX (hx : bc_ctx T n t o) (hu : bc_XS T n t o u) (H : ∀ u, bc_CS T n t o u → post (nI (bc_Y T o n).length) u) : wpX_symbols post u := by
  obtain ⟨f0, f1, f2, f3, f4, a1, a2, a3, a4, a5, a6, a7, a8, a9, a10, a11, a12, a13, a14, a15⟩ := u
  unfold wpX_symbols
  refine bc_codeX hx hu (fun u hu => ?_)
  have g := H u hu
  obtain ⟨mk, col, rk, sy, bt, cd, a2, a3, a4, a8, a9, a10, a13, a14, a15, hC, rfl⟩ := hu
  exact g
theorem bc_cost0 (hx : bc_ctx T 0 t o) (hu : bc_XS T 0 t o u) (H : ∀ u, bc_CS T 0 t o u → post (nI 0) u) : wpX_cost post u := by
  obtain ⟨f0, f1, f2, f3, f4, a1, a2, a3, a4, a5, a6, a7, a8, a9, a10, a11, a12, a13, a14, a15⟩ := u
  unfold wpX_cost
  refine bc_codeX hx hu (fun u hu => ?_)
  have g := H u hu
  obtain ⟨mk, col, rk, sy, bt, cd, a2, a3, a4, a8, a9, a10, a13, a14, a15, hC, rfl⟩ := hu
  exact g
theorem bc_symbolX (hx : bc_ctx T n t o) (hu : bc_XS T n t o u) {i : Nat} (hi : i < (bc_Y T o n).length) (H : ∀ u, bc_CS T n t o u → post (nI ((bc_Y T o n).getD i 0)) u) : wpX_symbol post u (nI i) := by
  obtain ⟨f0, f1, f2, f3, f4, a1, a2, a3, a4, a5, a6, a7, a8, a9, a10, a11, a12, a13, a14, a15⟩ := u
  unfold wpX_symbol
  refine bc_codeX hx hu (fun u hu => ?_)
  have g := H u hu
  obtain ⟨mk, col, rk, sy, bt, cd, a2, a3, a4, a8, a9, a10, a13, a14, a15, hC, rfl⟩ := hu
  have hl := bc_Y_len T o n
  have hn := hx.1
  rw [← hC.2.2.2.1 i hi] at g
  refine br_f (nI_pos (by omega)) (br_t (nI_lt hi (by omega)) ⟨pk_in i 32 (by omega), ?_⟩)
  rw [bc_rd (by omega)]
  exact g
theorem bc_symbolN (hx : bc_ctx T n t o) (hu : bc_XS T n t o u) {i : Nat} (hi : (bc_Y T o n).length ≤ i) (hi2 : i < 2 ^ 31) (H : ∀ u, bc_CS T n t o u → post (-3) u) : wpX_symbol post u (nI i) := by
  obtain ⟨f0, f1, f2, f3, f4, a1, a2, a3, a4, a5, a6, a7, a8, a9, a10, a11, a12, a13, a14, a15⟩ := u
  unfold wpX_symbol
  refine bc_codeX hx hu (fun u hu => ?_)
  have g := H u hu
  obtain ⟨mk, col, rk, sy, bt, cd, a2, a3, a4, a8, a9, a10, a13, a14, a15, hC, rfl⟩ := hu
  exact br_f (nI_pos (by omega)) (br_f (nI_nlt hi hi2) g)
theorem bc_columnX (hx : bc_ctx T n t o) (hu : bc_XS T n t o u) {i : Nat} (hi : i < n) (H : ∀ u, bc_CS T n t o u → post (nI (bc_col T o n i)) u) : wpX_column post u (nI i) := by
  obtain ⟨f0, f1, f2, f3, f4, a1, a2, a3, a4, a5, a6, a7, a8, a9, a10, a11, a12, a13, a14, a15⟩ := u
  unfold wpX_column
  refine bc_codeX hx hu (fun u hu => ?_)
  have g := H u hu
  obtain ⟨mk, col, rk, sy, bt, cd, a2, a3, a4, a8, a9, a10, a13, a14, a15, hC, rfl⟩ := hu
  have hn := hx.1
  rw [← hC.1 i hi] at g
  refine br_f (nI_pos (by omega)) (br_t (nI_lt hi (by omega)) ⟨pk_in i 32 (by omega), ?_⟩)
  rw [bc_rd (by omega)]
  exact g
theorem bc_rankX (hx : bc_ctx T n t o) (hu : bc_XS T n t o u) {i : Nat} (hi : i < n) (H : ∀ u, bc_CS T n t o u → post (nI (bc_rnk T o n i)) u) : wpX_rank post u (nI i) := by
  obtain ⟨f0, f1, f2, f3, f4, a1, a2, a3, a4, a5, a6, a7, a8, a9, a10, a11, a12, a13, a14, a15⟩ := u
  unfold wpX_rank
  refine bc_codeX hx hu (fun u hu => ?_)
  have g := H u hu
  obtain ⟨mk, col, rk, sy, bt, cd, a2, a3, a4, a8, a9, a10, a13, a14, a15, hC, rfl⟩ := hu
  have hn := hx.1
  rw [← hC.2.2.1 i hi] at g
  refine br_f (nI_pos (by omega)) (br_t (nI_lt hi (by omega)) ⟨pk_in i 32 (by omega), ?_⟩)
  rw [bc_rd (by omega)]
  exact g
/-- the set of the first k symbols -/
def bc_km (L : Nat → Nat) : Nat → Nat
  | 0 => 0
  | k + 1 => bc_km L k ||| 2 ^ L k
theorem bc_km_s (L : Nat → Nat) (k : Nat) : bc_km L (k + 1) = bc_km L k ||| 2 ^ L k := rfl
theorem bc_km_lt {L : Nat → Nat} (h : ∀ k, L k < 7) (k : Nat) : bc_km L k < 128 := by
  induction k with
  | zero => exact (by decide : 0 < 128)
  | succ k ih => exact Nat.or_lt_two_pow (n := 7) ih (Nat.pow_lt_pow_right (by omega) (h k))
def bc_bits (M n : Nat) : Nat := bc_sum (fun s => M / 2 ^ s % 2) n
theorem bc_diffX (hx : bc_ctx T n t o) (hu : bc_XS T n t o u) (H : ∀ u, bc_CS T n t o u → post (nI (bc_bits (bc_km (fun k => (bc_Y T o n).getD k 0) (bc_Y T o n).length) 7)) u) : wpX_different post u := by
  obtain ⟨f0, f1, f2, f3, f4, a1, a2, a3, a4, a5, a6, a7, a8, a9, a10, a11, a12, a13, a14, a15⟩ := u
  unfold wpX_different
  refine bc_codeX hx hu (fun u hu => ?_)
  have g := H u hu
  obtain ⟨mk, col, rk, sy, bt, cd, a2, a3, a4, a8, a9, a10, a13, a14, a15, hC, rfl⟩ := hu
  have hl := bc_Y_len T o n
  have hn := hx.1
  have h7 := bc_Y_at (T := T) (o := o) hx.2.1 n
  have hw := hC.2.2.2.1
  dsimp only
  have L37 : ∀ (m i : Nat), 7 - i < m → i ≤ 7 → wX_different_37 post (nI (bc_km (fun k => (bc_Y T o n).getD k 0) (bc_Y T o n).length)) (nI n) 1 (nI mk) (nI (bc_Y T o n).length) (nI (bc_ps bt sy (bc_Y T o n).length)) (bc_I t) a2 a3 a4 (bc_I col) (bc_I rk) (bc_I sy) a8 a9 a10 (bc_I bt) (bc_I cd) a13 a14 a15 m (nI (bc_bits (bc_km (fun k => (bc_Y T o n).getD k 0) (bc_Y T o n).length) i)) (nI i) := by
    intro m
    induction m with
    | zero => intro i h; omega
    | succ m ih =>
      intro i h hi
      refine pk_le 7 i (fun y => ?_) (fun y => ?_)
      · have : i = 7 := by omega
        subst this
        exact g
      · have hM := bc_km_lt h7 (bc_Y T o n).length
        rw [bc_bit (by omega) (by omega), nI_add]
        exact nm_e (nm_r (nI_1 i) (ih (i + 1) (by omega) (by omega)))
  have L8 : ∀ (m k : Nat), (bc_Y T o n).length - k < m → k ≤ (bc_Y T o n).length → wX_different_8 post (nI n) 1 (nI mk) (nI (bc_Y T o n).length) (nI (bc_ps bt sy (bc_Y T o n).length)) (bc_I t) a2 a3 a4 (bc_I col) (bc_I rk) (bc_I sy) a8 a9 a10 (bc_I bt) (bc_I cd) a13 a14 a15 m (nI (bc_km (fun k => (bc_Y T o n).getD k 0) k)) (nI k) := by
    intro m
    induction m with
    | zero => intro k h; omega
    | succ m ih =>
      intro k h hk
      refine pk_le (bc_Y T o n).length k (fun y => ?_) (fun y => ?_)
      · have : k = (bc_Y T o n).length := by omega
        subst this
        exact ⟨8, L37 8 0 (by omega) (by omega)⟩
      · have h7k := h7 k
        rw [bc_rd (show k < 2 ^ 31 by omega), hw k y, bc_sh1 (by omega), bc_or]
        exact ⟨pk_in k 32 (by omega), nm_e (nm_r (nI_1 k) (ih (k + 1) (by omega) (by omega)))⟩
  exact ⟨(bc_Y T o n).length + 1, L8 _ 0 (by omega) (by omega)⟩
theorem bc_decodedX (hx : bc_ctx T n t o) (hu : bc_XS T n t o u) {i : Nat} (hi : i < n) (H : ∀ u, bc_CS T n t o u → post (nI (T i)) u) : wpX_decoded post u (nI i) := by
  have hn := hx.1
  have hlen : ∀ P : St2 → Prop, wpX_code P u → (∀ a b, (nI i < 0 → a) ∧ (¬ nI i < 0 → ((nI i < nI n → wpX_code P u) ∧ (¬ nI i < nI n → b)))) := fun P h a b => br_f (nI_pos (by omega)) (br_t (nI_lt hi (by omega)) h)
  have key : ∀ P : St2 → Prop, (∀ u', bc_CS T n t o u' → P u') → wpX_code P u := fun P hP => bc_codeX hx hu hP
  have body : ∀ u', bc_CS T n t o u' → wpX_readSymbols (fun r u => wpX_undoRuns (fun r' u => wpX_undoRanks (fun u => wpX_undoSorting (fun u => match u with | (f0, f1, f2, f3, f4, a1, a2, a3, a4, a5, a6, a7, a8, a9, a10, a11, a12, a13, a14, a15) => vp_in (nI i) 32 ∧ post (a14 (nI i).toNatClampNeg) (f0, f1, f2, f3, f4, a1, a2, a3, a4, a5, a6, a7, a8, a9, a10, a11, a12, a13, a14, a15)) u r') u r') u r) u' := by
    intro u' hu'
    obtain ⟨mk, col, rk, sy, bt, cd, a2, a3, a4, a8, a9, a10, a13, a14, a15, hC, rfl⟩ := hu'
    obtain ⟨hn, h6, hT, ho, ht⟩ := hx
    have hC' := hC
    obtain ⟨c1, c2, c3, c4, c5, c6, c7, c8⟩ := hC
    have hl := bc_Y_len T o n
    have hs7 : ∀ k, k < (bc_Y T o n).length → sy k < 7 := fun k hk => by rw [c4 k hk]; exact bc_Y_at h6 n k
    obtain ⟨m1, m2⟩ := c2 (by omega)
    refine bc_readS (by omega) hs7 c5 c6 c7 c8 (fun bk hbk => ?_)
    refine bc_undoRuns (Y := bc_Y T o n) (rk := bc_rnk T o n) hn (by omega) (fun j hj => by rw [hbk j hj, c4 j hj]) (fun j hj => by rw [hbk j hj]; exact hs7 j hj) ?_ (fun st hst => ?_)
    · have := bc_dc_sy (bc_ls (bc_rnk T o n) 0 n) 0
      rw [List.replicate_zero, List.nil_append] at this
      exact this.symm
    refine bc_undoRanks (col := bc_col T o n) hn (fun j _ => h6 _) hst (fun bk2 r hbk2 => ?_)
    refine bc_undoSort hn h6 hT ho hbk2 m1 m2 (fun nc bk3 st3 hbk3 => ?_)
    refine ⟨pk_in i 32 (by omega), ?_⟩
    rw [bc_rd (by omega), hbk3 i hi]
    exact H _ ⟨mk, col, rk, sy, bt, cd, _, _, _, _, _, _, a13, _, _, hC', rfl⟩
  rcases hu with ⟨f2, f3, f4, a2, a3, a4, a5, a6, a7, a8, a9, a10, a11, a12, a13, a14, a15, rfl⟩ | ⟨mk, col, rk, sy, bt, cd, a2, a3, a4, a8, a9, a10, a13, a14, a15, hC, rfl⟩
  · exact hlen _ (key _ body) _ _
  · exact hlen _ (key _ body) _ _
end
end
section
/-- a state with a text, coded or not -/
def bc_TX (n : Nat) (t : Nat → Nat) (u : St2) : Prop := ∃ (f1 f2 f3 f4 : Int32) (a2 a3 a4 a5 a6 a7 a8 a9 a10 a11 a12 : Nat → Int32) (a13 : Nat → Int64) (a14 a15 : Nat → Int32), u = (nI n, f1, f2, f3, f4, bc_I t, a2, a3, a4, a5, a6, a7, a8, a9, a10, a11, a12, a13, a14, a15)
theorem bc_TX_U {n : Nat} {t : Nat → Nat} {u : St2} (h : bc_US n t u) : bc_TX n t u := by
  obtain ⟨f2, f3, f4, a2, a3, a4, a5, a6, a7, a8, a9, a10, a11, a12, a13, a14, a15, rfl⟩ := h
  exact ⟨_, _, _, _, _, _, _, _, _, _, _, _, _, _, _, _, _, _, rfl⟩
theorem bc_TX_C {T : Nat → Nat} {n : Nat} {t o : Nat → Nat} {u : St2} (h : bc_CS T n t o u) : bc_TX n t u := by
  obtain ⟨mk, col, rk, sy, bt, cd, a2, a3, a4, a8, a9, a10, a13, a14, a15, hC, rfl⟩ := h
  exact ⟨_, _, _, _, _, _, _, _, _, _, _, _, _, _, _, _, _, _, rfl⟩
section
variable {post : Int32 → St2 → Prop} {T t o : Nat → Nat} {n : Nat} {u : St2}
theorem bc_typeU (hu : bc_US n t u) (hn : n < 32) {l : Nat} (hl : l < 6) (H : ∀ u, bc_US (n + 1) (bc_up t n l) u → post (nI (n + 1)) u) : wpX_type post u (nI l) := by
  obtain ⟨f2, f3, f4, a2, a3, a4, a5, a6, a7, a8, a9, a10, a11, a12, a13, a14, a15, rfl⟩ := hu
  refine pk_lt n 32 (fun _ => br_f (nI_pos (by omega)) (pk_lt l 6 (fun _ => ⟨pk_in n 32 hn, nm_r (bc_st8 rfl rfl (by omega) (by omega)) (nm_r (nI_1 n) (H _ ⟨_, _, _, _, _, _, _, _, _, _, _, _, _, _, _, _, _, rfl⟩))⟩) (fun z => absurd z (by omega)))) (fun z => absurd z (by omega))
theorem bc_typeF (hu : bc_TX 32 t u) {x : Int32} (H : post (-2) u) : wpX_type post u x := by
  obtain ⟨f1, f2, f3, f4, a2, a3, a4, a5, a6, a7, a8, a9, a10, a11, a12, a13, a14, a15, rfl⟩ := hu
  exact br_f (by decide) H
theorem bc_clear (hu : bc_TX n t u) (H : ∀ u, bc_US 0 t u → post (nI n) u) : wpX_clear post u := by
  obtain ⟨f1, f2, f3, f4, a2, a3, a4, a5, a6, a7, a8, a9, a10, a11, a12, a13, a14, a15, rfl⟩ := hu
  exact H _ ⟨_, _, _, _, _, _, _, _, _, _, _, _, _, _, _, _, _, rfl⟩
theorem bc_rep0 (hu : bc_TX n t u) (H : post (-1) u) : wpX_repeat post u 0 := by
  obtain ⟨f1, f2, f3, f4, a2, a3, a4, a5, a6, a7, a8, a9, a10, a11, a12, a13, a14, a15, rfl⟩ := hu
  exact br_t (by decide) H
theorem bc_repB (hu : bc_TX n t u) {c : Nat} (h1 : 1 ≤ c) (hc : n < c) (hc2 : c < 2 ^ 31) (H : post (-1) u) : wpX_repeat post u (nI c) := by
  obtain ⟨f1, f2, f3, f4, a2, a3, a4, a5, a6, a7, a8, a9, a10, a11, a12, a13, a14, a15, rfl⟩ := hu
  exact pk_lt c 1 (fun z => absurd z (by omega)) (fun _ => pk_le c n (fun z => absurd z (by omega)) (fun _ => H))
theorem bc_repF (hu : bc_TX n t u) {c : Nat} (h1 : 1 ≤ c) (hc : c ≤ n) (hf : 32 < n + c) (hn : n < 2 ^ 30) (H : post (-2) u) : wpX_repeat post u (nI c) := by
  obtain ⟨f1, f2, f3, f4, a2, a3, a4, a5, a6, a7, a8, a9, a10, a11, a12, a13, a14, a15, rfl⟩ := hu
  exact pk_lt c 1 (fun z => absurd z (by omega)) (fun _ => pk_le c n (fun _ => pk_le (n + c) 32 (fun z => absurd z (by omega)) (fun _ => H) (hx := nI_add n c)) (fun z => absurd z (by omega)))
theorem bc_repOK (hu : bc_TX n t u) {c : Nat} (h1 : 1 ≤ c) (hc : c ≤ n) (hf : n + c ≤ 32) (ht : ∀ j, j < n → t j < 6)
    (H : ∀ t' u, (∀ j, j < n → t' j = t j) → (∀ j, j < c → t' (n + j) = t (n - c + j)) → bc_US (n + c) t' u → post (nI (n + c)) u) : wpX_repeat post u (nI c) := by
  obtain ⟨f1, f2, f3, f4, a2, a3, a4, a5, a6, a7, a8, a9, a10, a11, a12, a13, a14, a15, rfl⟩ := hu
  have L : ∀ (m i : Nat) (t' : Nat → Nat), c - i < m → i ≤ c → (∀ j, j < n → t' j = t j) → (∀ j, j < i → t' (n + j) = t (n - c + j)) → wX_repeat_38 post (nI c) (nI (n - c)) (nI n) f1 f2 f3 f4 m (nI i) (bc_I t') a2 a3 a4 a5 a6 a7 a8 a9 a10 a11 a12 a13 a14 a15 := by
    intro m
    induction m with
    | zero => intro i t' h; omega
    | succ m ih =>
      intro i t' h hi e1 e2
      refine pk_le c i (fun y => nm_r (nI_add n c) (H t' _ e1 (fun j hj => e2 j (by omega)) ⟨_, _, _, _, _, _, _, _, _, _, _, _, _, _, _, _, _, rfl⟩)) (fun y => ?_)
      have hti := ht (n - c + i) (by omega)
      have er := e1 (n - c + i) (by omega)
      refine ⟨pk_in (n - c + i) 32 (by omega) (hx := nI_add _ _), pk_in (n + i) 32 (by omega) (hx := nI_add _ _), nm_r (bc_stn (k := n + i) (x := t (n - c + i)) (nI_add _ _) (by rw [nI_add, bc_rd (by omega), er]) (by omega) (by omega)) (nm_r (nI_1 i) (ih (i + 1) _ (by omega) (by omega) (fun j hj => ?_) (fun j hj => ?_)))⟩
      · rw [bc_up_n (by omega)]
        exact e1 j hj
      · by_cases e : j = i
        · rw [e, bc_up_s]
        · rw [bc_up_n (by omega)]
          exact e2 j (by omega)
  exact pk_lt c 1 (fun z => absurd z (by omega)) (fun _ => pk_le c n (fun _ => pk_le (n + c) 32 (fun _ => nm_r (pk_sub hc) ⟨c + 1, L (c + 1) 0 t (by omega) (by omega) (fun _ _ => rfl) (fun j hj => absurd hj (by omega))⟩) (fun z => absurd z (by omega)) (hx := nI_add n c)) (fun z => absurd z (by omega)))
theorem bc_decodedN (hu : bc_TX n t u) {i : Nat} (hi : n ≤ i) (hi2 : i < 2 ^ 31) (H : post (-3) u) : wpX_decoded post u (nI i) := by
  obtain ⟨f1, f2, f3, f4, a2, a3, a4, a5, a6, a7, a8, a9, a10, a11, a12, a13, a14, a15, rfl⟩ := hu
  exact br_f (nI_pos (by omega)) (br_f (nI_nlt hi hi2) H)
end
/-! the law's own small methods -/
def bc_T (W i : Nat) : Nat := W / 2 ^ (4 * (i % 8)) % 16 % 6
theorem bc_T_6 (W i : Nat) : bc_T W i < 6 := Nat.mod_lt _ (by omega)
theorem bc_T_8 (W i : Nat) : bc_T W (i + 8) = bc_T W i := by
  unfold bc_T
  rw [Nat.add_mod_right]
theorem bc_T_mod (W i : Nat) : bc_T W (i % 8) = bc_T W i := by
  unfold bc_T
  rw [Nat.mod_mod]
theorem bc_letter {post : Int32 → Prop} {W i : Nat} (hW : W < 2 ^ 64) (hi : i < 8) (H : post (nI (bc_T W i))) : wpL_letter post () (lN W) (nI i) := by
  refine ⟨by decide, ?_⟩
  have e : ((((lN W).toUInt64 >>> ((4 * nI i).toInt64.toUInt64 &&& Int64.toUInt64 63)).toInt64) &&& 15).toInt32 = nI (W / 2 ^ (4 * i) % 16) := by
    rw [show (4 : Int32) = nI 4 from rfl, pk_mul, wb_shr hW (by omega), show (15 : Int64) = lN (2 ^ 4 - 1) from rfl, wb_mask (Nat.lt_of_le_of_lt (Nat.div_le_self _ _) hW) (by omega), lN_i]
  rw [e]
  have h16 : W / 2 ^ (4 * i) % 16 < 16 := Nat.mod_lt _ (by omega)
  have e2 : nI (W / 2 ^ (4 * i) % 16) - nI (W / 2 ^ (4 * i) % 16) / 6 * 6 = nI (W / 2 ^ (4 * i) % 16 % 6) := pk_rem (d := 6) (by omega) (by omega) (by omega)
  rw [e2]
  have e3 : bc_T W i = W / 2 ^ (4 * i) % 16 % 6 := by
    unfold bc_T
    rw [Nat.mod_eq_of_lt hi]
  rw [← e3]
  exact H
theorem bc_and7 {k : Nat} (h : k < 100) : nI k &&& 7 = nI (k % 8) := pk_andN (by omega) 3 (by decide)
theorem bc_letter7 {post : Int32 → Prop} {W p k : Nat} (hW : W < 2 ^ 64) (h : p + k < 100) (H : post (nI (bc_T W (p + k)))) : wpL_letter post () (lN W) ((nI p + nI k) &&& 7) := by
  rw [nI_add, bc_and7 h]
  refine bc_letter hW (Nat.mod_lt _ (by omega)) ?_
  rw [bc_T_mod]
  exact H
theorem bc_before {post : Int32 → Prop} {W p q : Nat} (hW : W < 2 ^ 64) (hp : p < 8) (hq : q < 8) (H1 : bc_G (bc_T W) p < bc_G (bc_T W) q → post 1) (H0 : ¬ bc_G (bc_T W) p < bc_G (bc_T W) q → post 0) : wpL_before post () (lN W) (nI p) (nI q) := by
  have hG := bc_G_lt (T := bc_T W) (p := p) (q := q) (by omega) (by omega)
  have k1 := bc_K64 (bc_T_8 W) p q
  have k2 := bc_K64 (bc_T_8 W) q p
  have L : ∀ (m k : Nat), 8 - k < m → k ≤ 8 → bc_K (bc_T W) k p = bc_K (bc_T W) k q → wL_before_3 post (lN W) (nI p) (nI q) m (nI k) := by
    intro m
    induction m with
    | zero => intro k h; omega
    | succ m ih =>
      intro k h hk hK
      refine pk_le 8 k (fun y => ?_) (fun y => ?_)
      · have : k = 8 := by omega
        subst this
        exact pk_le q p (fun z => H0 (by omega)) (fun z => H1 (by omega))
      · refine bc_letter7 hW (by omega) (bc_letter7 hW (by omega) ?_)
        have t1 := bc_T_6 W (p + k)
        have t2 := bc_T_6 W (q + k)
        have s1 := bc_K_s (bc_T W) k p
        have s2 := bc_K_s (bc_T W) k q
        have d1 := bc_K_dbl (bc_T_6 W) (k + 1) (8 - (k + 1)) p q
        have d2 := bc_K_dbl (bc_T_6 W) (k + 1) (8 - (k + 1)) q p
        rw [show k + 1 + (8 - (k + 1)) = 8 by omega] at d1 d2
        refine pk_eq (bc_T W (p + k)) (bc_T W (q + k)) (fun e => nm_r (nI_1 k) (ih (k + 1) (by omega) (by omega) (by omega))) (fun e => ?_)
        exact pk_le (bc_T W (q + k)) (bc_T W (p + k)) (fun z => H0 (by omega)) (fun z => H1 (by omega))
  exact ⟨9, L 9 0 (by omega) (by omega) rfl⟩
theorem bc_rk32 (W : Nat) : bc_rk (bc_G (bc_T W)) 32 0 = 4 * bc_cnt (fun q => decide (bc_G (bc_T W) q < bc_G (bc_T W) 0)) 8 := by
  have e : ∀ n, n ≤ 64 → bc_cnt (fun q => decide (bc_G (bc_T W) q < bc_G (bc_T W) 0)) n = bc_cnt (fun q => decide (bc_K (bc_T W) 64 q < bc_K (bc_T W) 64 0)) n := by
    intro n hn
    apply bc_cnt_congr
    intro q hq
    apply decide_eq_decide.mpr
    rw [bc_G_lt (by omega) (by omega)]
    omega
  unfold bc_rk
  rw [e 32 (by omega), e 8 (by omega), bc_cnt32]
  intro i
  apply decide_eq_decide.mpr
  rw [bc_K_per (bc_T_8 W)]
theorem bc_four {post : Int32 → Prop} {W : Nat} (hW : W < 2 ^ 64) (H : post (nI (bc_rk (bc_G (bc_T W)) 32 0))) : wpL_four post () (lN W) := by
  rw [bc_rk32] at H
  have L : ∀ (m q : Nat), 8 - q < m → q ≤ 8 → wL_four_4 post (lN W) m (nI (4 * bc_cnt (fun q => decide (bc_G (bc_T W) q < bc_G (bc_T W) 0)) q)) (nI q) := by
    intro m
    induction m with
    | zero => intro q h; omega
    | succ m ih =>
      intro q h hq
      refine pk_le 8 q (fun y => ?_) (fun y => ?_)
      · have : q = 8 := by omega
        subst this
        exact H
      · have g := ih (q + 1) (by omega) (by omega)
        rw [bc_cnt_s] at g
        refine bc_before hW y (q := 0) (by omega) (fun z => ?_) (fun z => ?_)
        · rw [if_pos (by simpa using z), Nat.mul_add, Nat.mul_one] at g
          exact br_f (by decide) (nm_r (nI_add _ 4) (nm_r (nI_1 q) g))
        · rw [if_neg (by simpa using z), Nat.add_zero] at g
          exact br_t rfl (nm_r (nI_1 q) g)
  have g := L 8 1 (by omega) (by omega)
  have e : bc_cnt (fun q => decide (bc_G (bc_T W) q < bc_G (bc_T W) 0)) 1 = 0 := bc_cnt_none (fun i hi => by
    have : i = 0 := by omega
    subst this
    simp)
  rw [e] at g
  exact ⟨8, g⟩
end
section
/-- the column as the law keeps it: three bits a place -/
def bc_dg (cw j : Nat) : Nat := cw / 2 ^ (3 * j) % 8
theorem bc_dig {cw j : Nat} (hc : cw < 2 ^ 24) (hj : j < 8) : ((((lN cw).toUInt64 >>> ((3 * nI j).toInt64.toUInt64 &&& Int64.toUInt64 63)).toInt64).toInt32) &&& 7 = nI (bc_dg cw j) := by
  have : cw / 2 ^ (3 * j) ≤ cw := Nat.div_le_self _ _
  rw [show (3 : Int32) = nI 3 from rfl, pk_mul, wb_shr (by omega) (by omega), lN_i, pk_andN (by omega) 3 (by decide)]
  rfl
theorem bc_dg_or (a b j : Nat) : bc_dg (a ||| b) j = bc_dg a j ||| bc_dg b j := by
  unfold bc_dg
  rw [← Nat.shiftRight_eq_div_pow, ← Nat.shiftRight_eq_div_pow, ← Nat.shiftRight_eq_div_pow, Nat.shiftRight_or_distrib]
  exact Nat.or_mod_two_pow (n := 3)
theorem bc_dg_one {l p j : Nat} (hl : l < 8) : bc_dg (l * 2 ^ (3 * p)) j = if j = p then l else 0 := by
  unfold bc_dg
  rcases Nat.lt_trichotomy j p with h | h | h
  · rw [if_neg (by omega), show 3 * p = 3 * j + 3 * (p - j) by omega, Nat.pow_add, ← Nat.mul_assoc, Nat.mul_right_comm, Nat.mul_div_cancel _ (Nat.two_pow_pos _), show 3 * (p - j) = 3 * (p - j - 1) + 3 by omega, Nat.pow_add, ← Nat.mul_assoc]
    exact Nat.mul_mod_left _ _
  · rw [if_pos h, h, Nat.mul_div_cancel _ (Nat.two_pow_pos _), Nat.mod_eq_of_lt hl]
  · rw [if_neg (by omega)]
    have h1 : l * 2 ^ (3 * p) < 2 ^ (3 * j) := by
      have h2 : 2 ^ (3 * j) = 2 ^ (3 * (j - p)) * 2 ^ (3 * p) := by
        rw [← Nat.pow_add]
        congr 1
        omega
      rw [h2]
      apply Nat.mul_lt_mul_of_pos_right _ (Nat.two_pow_pos _)
      have h3 : 2 ^ 3 ≤ 2 ^ (3 * (j - p)) := Nat.pow_le_pow_right (by omega) (by omega)
      omega
    rw [Nat.div_eq_of_lt h1]
/-! the law's rank -/
theorem bc_lr78 {post : Int32 → Prop} {col : Nat → Nat} {i c M r : Nat} (hi : i ≤ 8) (hc : c < 6) (hM : M < 2 ^ 31) (hb : ∀ d, d < 6 → (M.testBit d = true ↔ 0 < bc_la col i d)) (hl : bc_la col i c = 0) (hr : r = bc_cnt (fun d => decide (0 < bc_la col i d)) 6)
    (H : post (nI (bc_pos col i c))) : ∃ fu, wL_rank_78 post (nI c) (nI M) fu (nI r) 0 := by
  have L : ∀ (m v : Nat), c - v < m → v ≤ c → wL_rank_78 post (nI c) (nI M) m (nI (r + bc_cnt (fun d => decide (bc_la col i d = 0)) v)) (nI v) := by
    intro m
    induction m with
    | zero => intro v h; omega
    | succ m ih =>
      intro v h hv
      refine pk_le c v (fun y => ?_) (fun y => ?_)
      · have : v = c := by omega
        subst this
        rw [hr, ← bc_pos_f2 (by omega) hc hl]
        exact H
      · have g := ih (v + 1) (by omega) (by omega)
        rw [bc_cnt_s] at g
        rw [bc_bit hM (by omega)]
        have t := bc_tb M v
        have b := hb v (by omega)
        refine pk_eq (M / 2 ^ v % 2) 0 (fun z => ?_) (fun z => ?_)
        · rw [if_pos (decide_eq_true (show bc_la col i v = 0 by
            apply Classical.byContradiction
            intro w
            have := t.mp (b.mpr (by omega))
            omega)), ← Nat.add_assoc] at g
          exact nm_r (nI_1 _) (nm_r (nI_1 v) g)
        · have hz : ¬ bc_la col i v = 0 := by
            have := b.mp (t.mpr (by have := Nat.mod_lt (M / 2 ^ v) (show 0 < 2 by omega); omega))
            omega
          rw [if_neg (by simpa using hz), Nat.add_zero] at g
          exact nm_r (nI_1 v) g
  exact ⟨c + 1, L (c + 1) 0 (by omega) (by omega)⟩
theorem bc_lrank {post : Int32 → Prop} {col : Nat → Nat} {cw i : Nat} (hcw : cw < 2 ^ 24) (hi : i < 8) (hd : ∀ j, j < 8 → bc_dg cw j = col j) (h6 : ∀ j, col j < 6) (H : post (nI (bc_pos col i (col i)))) : wpL_rank post () (lN cw) (nI i) := by
  have hci := h6 i
  have L : ∀ (m k M : Nat), k < m → k ≤ i → M < 64 → (∀ d, d < 6 → (M.testBit d = true ↔ k < bc_la col i d)) → bc_la col i (col i) ≤ k → wL_rank_21 post (lN cw) (nI (col i)) m (nI M) (nI (bc_cnt (fun d => decide (k < bc_la col i d)) 6)) (nI k - 1) := by
    intro m
    induction m with
    | zero => intro k M h; omega
    | succ m ih =>
      intro k M h hk hM hb hl
      by_cases z : k = 0
      · subst z
        exact br_t (by decide) (bc_lr78 (by omega) hci (by omega) hb (by omega) rfl H)
      · have hlow := bc_la_ge (col := col) (k := k - 1) (i := i) (d := col (k - 1)) (by omega) rfl
        have hck := h6 (k - 1)
        have hat : ∀ d, bc_la col i d = k → col (k - 1) = d := by
          intro d hd'
          have := bc_la_at (col := col) (k := i) (d := d) (by omega)
          rw [hd'] at this
          exact this
        rw [bc_s1 (by omega)]
        refine br_f (nI_pos (by omega)) (nm_r (e' := nI (col (k - 1))) (by rw [bc_dig hcw (by omega), hd (k - 1) (by omega)]) ?_)
        refine pk_eq (col (k - 1)) (col i) (fun e => ?_) (fun e => ?_)
        · rw [e] at hlow
          have hla : bc_la col i (col i) = (k - 1) + 1 := by omega
          have hp := bc_pos_f1 (by omega) hla
          rw [show k - 1 + 1 = k by omega] at hp
          rw [← hp]
          exact H
        · have hl' : bc_la col i (col i) ≤ k - 1 := by
            have : bc_la col i (col i) ≠ k := fun w => e (hat _ w)
            omega
          have hM' : M ||| 2 ^ col (k - 1) < 64 := Nat.or_lt_two_pow (n := 6) hM (Nat.pow_lt_pow_right (by omega) hck)
          have hb' : ∀ d, d < 6 → ((M ||| 2 ^ col (k - 1)).testBit d = true ↔ k - 1 < bc_la col i d) := by
            intro d hd6
            rw [Nat.testBit_or, Bool.or_eq_true, hb d hd6, Nat.testBit_two_pow, decide_eq_true_iff]
            constructor
            · rintro (w | w)
              · omega
              · rw [← w]
                exact hlow
            · intro w
              by_cases w2 : bc_la col i d = k
              · exact Or.inr (hat d w2)
              · exact Or.inl (by omega)
          have nx := ih (k - 1) _ (by omega) (by omega) hM' hb' hl'
          have fin : ∀ r, r = bc_cnt (fun d => decide (k - 1 < bc_la col i d)) 6 → wL_rank_60 post (wL_rank_21 post (lN cw) (nI (col i)) m) (lN cw) (nI (col i)) (nI M) (nI r) (nI (k - 1)) (nI (col (k - 1))) := by
            intro r hr
            subst hr
            exact nm_r (by rw [bc_sh1 (by omega), bc_or]) (nm_r (bc_p1 _) nx)
          rw [bc_bit (by omega) (by omega)]
          have t := bc_tb M (col (k - 1))
          have b := hb (col (k - 1)) hck
          refine pk_eq (M / 2 ^ col (k - 1) % 2) 0 (fun w => nm_r (nI_1 _) (fin _ ?_)) (fun w => fin _ ?_)
          · have hnot : ¬ k < bc_la col i (col (k - 1)) := fun w2 => by
              have := t.mp (b.mpr w2)
              omega
            rw [bc_cnt_remove (fun d => decide (k - 1 < bc_la col i d)) (col (k - 1)) 6 hck, if_pos (by simpa using hlow)]
            congr 1
            apply bc_cnt_congr
            intro d _
            by_cases ed : d = col (k - 1)
            · rw [ed]
              simp [hnot]
            · have hne : bc_la col i d ≠ k := fun w2 => ed (hat d w2).symm
              have hne2 : (d == col (k - 1)) = false := by simpa using ed
              rw [hne2, Bool.not_false, Bool.and_true]
              exact decide_eq_decide.mpr (by omega)
          · have hyes : k < bc_la col i (col (k - 1)) := b.mp (t.mpr (by have := Nat.mod_lt (M / 2 ^ col (k - 1)) (show 0 < 2 by omega); omega))
            apply bc_cnt_congr
            intro d _
            apply decide_eq_decide.mpr
            have hne : bc_la col i d ≠ k := fun w2 => by
              have := hat d w2
              rw [this] at hyes
              omega
            omega
  unfold wpL_rank
  rw [bc_dig hcw hi, hd i hi]
  have hle := fun d => bc_la_le col i d
  have g := L (i + 1) i 0 (by omega) (by omega) (by omega) (fun d _ => by rw [Nat.zero_testBit]; exact ⟨fun w => absurd w (by decide), fun w => absurd w (by have := hle d; omega)⟩) (hle _)
  rw [bc_cnt_none (P := fun d => decide (i < bc_la col i d)) (fun d _ => by have := hle d; simp; omega)] at g
  exact nm_e (nm_e ⟨i + 1, g⟩)
end
section
theorem bc_ord_ex (T : Nat → Nat) {n : Nat} (hn : n ≤ 64) : ∃ o, bc_ord T n o := by
  have h : ∀ i, ∃ p, i < n → (p < n ∧ bc_rk (bc_G T) n p = i) := by
    intro i
    by_cases hi : i < n
    · obtain ⟨p, h1, h2⟩ := bc_rk_surj (bc_G_inj (T := T) hn) hi
      exact ⟨p, fun _ => ⟨h1, h2⟩⟩
    · exact ⟨0, fun z => absurd z hi⟩
  refine ⟨fun i => Classical.choose (h i), fun i hi => (Classical.choose_spec (h i) hi).1, fun i j hij hj => ?_⟩
  have h1 := Classical.choose_spec (h i) (by omega)
  have h2 := Classical.choose_spec (h j) hj
  exact bc_rk_of_lt h2.1 (by rw [h1.2, h2.2]; exact hij)
theorem bc_dropc {Y l : List Nat} {s a : Nat} (h : Y.drop s = a :: l) : s < Y.length ∧ Y.getD s 0 = a ∧ Y.drop (s + 1) = l := by
  have hs : s < Y.length := by
    apply Classical.byContradiction
    intro z
    rw [List.drop_eq_nil_of_le (by omega)] at h
    cases h
  rw [bc_drop hs] at h
  injection h with h1 h2
  exact ⟨hs, h1, h2⟩
theorem bc_shr {M s : Nat} (hM : M < 2 ^ 31) (hs : s < 32) : nI M >>> (nI s &&& 31) = nI (M / 2 ^ s) := pk_shrN hM _ s (bc_sl s hs)
section
variable {post : Int32 → St0 → Prop} {mc ms kc ks : Nat} {W cw : Nat} {x2 : Int32} {t o o8 : Nat → Nat}
/-- the column at length 32, then the end -/
theorem bc_L532 (hW : W < 2 ^ 64) (hcw : cw < 2 ^ 24) (h8 : bc_ord (bc_T W) 8 o8) (hd : ∀ j, j < 8 → bc_dg cw j = bc_col (bc_T W) o8 8 j) (hx : bc_ctx (bc_T W) 32 t o) (H : post 1 ()) :
    ∀ (m i : Nat) (u : St2), 32 - i < m → i ≤ 32 → bc_XS (bc_T W) 32 t o u → (match u with | (f0, f1, f2, f3, f4, a1, a2, a3, a4, a5, a6, a7, a8, a9, a10, a11, a12, a13, a14, a15) => wL_lawOf_532 post mc ms (lN W) x2 (lN cw) kc ks m (nI i) f0 f1 f2 f3 f4 a1 a2 a3 a4 a5 a6 a7 a8 a9 a10 a11 a12 a13 a14 a15) := by
  intro m
  induction m with
  | zero => intro i u h; omega
  | succ m ih =>
    intro i u h hi hu
    obtain ⟨f0, f1, f2, f3, f4, a1, a2, a3, a4, a5, a6, a7, a8, a9, a10, a11, a12, a13, a14, a15⟩ := u
    refine pk_le 32 i (fun y => ?_) (fun y => ?_)
    · obtain ⟨j, hj, ej⟩ := pk_andE x2 (m := 31) 5 (by decide)
      refine nm_r ej (bc_decodedX hx hu (show j < 32 from hj) (fun u hu => ?_))
      obtain ⟨f0, f1, f2, f3, f4, a1, a2, a3, a4, a5, a6, a7, a8, a9, a10, a11, a12, a13, a14, a15⟩ := u
      dsimp only
      rw [bc_and7 (show j < 100 by omega)]
      refine bc_letter hW (Nat.mod_lt _ (by omega)) (br_t (by rw [bc_T_mod]) ?_)
      refine bc_markX hx (by omega) (Or.inr hu) (fun u hu => ?_)
      obtain ⟨f0, f1, f2, f3, f4, a1, a2, a3, a4, a5, a6, a7, a8, a9, a10, a11, a12, a13, a14, a15⟩ := u
      refine bc_four hW (br_t rfl ?_)
      refine bc_clear (bc_TX_C hu) (fun u hu => ?_)
      obtain ⟨f0, f1, f2, f3, f4, a1, a2, a3, a4, a5, a6, a7, a8, a9, a10, a11, a12, a13, a14, a15⟩ := u
      refine br_t rfl ?_
      have hx0 : bc_ctx (bc_T W) 0 t o := ⟨by omega, hx.2.1, fun i => rfl, ⟨fun i hi => absurd hi (by omega), fun i j _ hj => absurd hj (by omega)⟩, fun j hj => absurd hj (by omega)⟩
      refine bc_mark0 hx0 (Or.inl hu) (fun u hu => ?_)
      obtain ⟨f0, f1, f2, f3, f4, a1, a2, a3, a4, a5, a6, a7, a8, a9, a10, a11, a12, a13, a14, a15⟩ := u
      refine br_t rfl ?_
      refine bc_cost0 hx0 (Or.inr hu) (fun u hu => ?_)
      obtain ⟨f0, f1, f2, f3, f4, a1, a2, a3, a4, a5, a6, a7, a8, a9, a10, a11, a12, a13, a14, a15⟩ := u
      refine br_t rfl ?_
      refine bc_symbolsX hx0 (Or.inr hu) (fun u hu => ?_)
      obtain ⟨f0, f1, f2, f3, f4, a1, a2, a3, a4, a5, a6, a7, a8, a9, a10, a11, a12, a13, a14, a15⟩ := u
      have e0 : (bc_Y (bc_T W) o 0).length = 0 := by
        have := bc_Y_len (bc_T W) o 0
        omega
      exact br_t (by rw [e0]; rfl) H
    · refine bc_columnX hx hu y (fun u hu => ?_)
      have g := ih (i + 1) u (by omega) (by omega) (Or.inr hu)
      obtain ⟨f0, f1, f2, f3, f4, a1, a2, a3, a4, a5, a6, a7, a8, a9, a10, a11, a12, a13, a14, a15⟩ := u
      refine ⟨by decide, br_t ?_ (nm_r (nI_1 i) g)⟩
      have e1 : nI i / 4 = nI (i / 4) := pk_div (d := 4) (by omega) (by omega) (by omega)
      have e2 : bc_col (bc_T W) o 32 i = bc_col (bc_T W) o8 8 (i / 4) := bc_col32 (bc_T_6 W) (bc_T_8 W) h8 hx.2.2.2.1 y
      rw [e1, bc_dig hcw (by omega), hd (i / 4) (by omega), e2]
/-- the zeros' bits, then the rank's own symbol -/
theorem bc_L246 {J : Int32 → Int32 → Int32 → Int32 → Int32 → Int32 → Int32 → Int32 → Int32 → (Nat → Int32) → (Nat → Int32) → (Nat → Int32) → (Nat → Int32) → (Nat → Int32) → (Nat → Int32) → (Nat → Int32) → (Nat → Int32) → (Nat → Int32) → (Nat → Int32) → (Nat → Int32) → (Nat → Int32) → (Nat → Int64) → (Nat → Int32) → (Nat → Int32) → Prop} {i z rr : Nat} (hx : bc_ctx (bc_T W) 8 t o) (hi : i ≤ 8) (hz : z ≤ 8) (hr : i < 8 → rr = bc_rnk (bc_T W) o 8 i)
    (H : ∀ (s : Nat) (u : St2), bc_CS (bc_T W) 8 t o u → s ≤ (bc_Y (bc_T W) o 8).length → (bc_Y (bc_T W) o 8).drop s = bc_todo (bc_rnk (bc_T W) o 8) 8 (i + 1) 0 →
      (match u with | (f0, f1, f2, f3, f4, a1, a2, a3, a4, a5, a6, a7, a8, a9, a10, a11, a12, a13, a14, a15) => J (nI s) (nI 0) (nI (bc_km (fun k => (bc_Y (bc_T W) o 8).getD k 0) s)) (nI (i + 1)) f0 f1 f2 f3 f4 a1 a2 a3 a4 a5 a6 a7 a8 a9 a10 a11 a12 a13 a14 a15)) :
    ∀ (m b s : Nat) (u : St2), 4 - b < m → b ≤ 4 → bc_CS (bc_T W) 8 t o u → s ≤ (bc_Y (bc_T W) o 8).length → (bc_Y (bc_T W) o 8).drop s = bc_bij ((z + 1) / 2 ^ b - 1) ++ bc_rest (bc_rnk (bc_T W) o 8) 8 i →
      (match u with | (f0, f1, f2, f3, f4, a1, a2, a3, a4, a5, a6, a7, a8, a9, a10, a11, a12, a13, a14, a15) => wL_lawOf_246 post mc ms J (lN W) x2 (lN cw) (nI z) (nI i) (nI rr) kc ks m (nI s) (nI (bc_km (fun k => (bc_Y (bc_T W) o 8).getD k 0) s)) (nI b) f0 f1 f2 f3 f4 a1 a2 a3 a4 a5 a6 a7 a8 a9 a10 a11 a12 a13 a14 a15) := by
  have h7 := bc_Y_at (T := bc_T W) (o := o) hx.2.1 8
  have hY := bc_Y_len (bc_T W) o 8
  intro m
  induction m with
  | zero => intro b s u h; omega
  | succ m ih =>
    intro b s u h hb hu hs hY'
    refine (?_ : (match u with | (f0, f1, f2, f3, f4, a1, a2, a3, a4, a5, a6, a7, a8, a9, a10, a11, a12, a13, a14, a15) => wL_lawOf_246 post mc ms J (lN W) x2 (lN cw) (nI z) (nI i) (nI rr) kc ks (m + 1) (nI s) (nI (bc_km (fun k => (bc_Y (bc_T W) o 8).getD k 0) s)) (nI b) f0 f1 f2 f3 f4 a1 a2 a3 a4 a5 a6 a7 a8 a9 a10 a11 a12 a13 a14 a15))
    have hu0 := hu
    have ih0 := fun b' s' h1 h2 h3 h4 => ih b' s' u h1 h2 hu h3 h4
    have H0 := fun s' h1 h2 => H s' u hu h1 h2
    obtain ⟨f0, f1, f2, f3, f4, a1, a2, a3, a4, a5, a6, a7, a8, a9, a10, a11, a12, a13, a14, a15⟩ := u
    refine pk_le 4 b (fun y => ?_) (fun y => ?_)
    · have eb : b = 4 := by omega
      subst eb
      rw [show (z + 1) / 2 ^ 4 - 1 = 0 by omega, bc_bij_0, List.nil_append] at hY'
      refine pk_le 8 i (fun y => ?_) (fun y => ?_)
      · have ei : i = 8 := by omega
        subst ei
        rw [bc_rest_e] at hY'
        exact br_t (by decide) (br_t (by decide) (nm_r (nI_1 8) (H0 s hs hY')))
      · rw [bc_rest_n y, ← hr y] at hY'
        obtain ⟨d1, d2, d3⟩ := bc_dropc hY'
        have hrr := bc_rnk_lt (T := bc_T W) (o := o) hx.2.1 8 i
        rw [← hr y] at hrr
        refine bc_symbolX hx (Or.inr hu0) d1 (fun u hu => ?_)
        have g := H (s + 1) u hu (by omega) d3
        obtain ⟨f0, f1, f2, f3, f4, a1, a2, a3, a4, a5, a6, a7, a8, a9, a10, a11, a12, a13, a14, a15⟩ := u
        rw [bc_km_s, d2] at g
        refine br_t (by rw [d2, nI_1]) ?_
        refine br_f (nI_ge (b := 8) y (by decide)) (nm_r (by rw [nI_1 rr, bc_sh1 (by omega), bc_or]) ?_)
        exact br_f (nI_ge (b := 8) y (by decide)) (nm_r (nI_1 s) (nm_r (nI_1 i) g))
    · have e1 : (nI z + 1) >>> ((nI b + 1) &&& 31) = nI ((z + 1) / 2 ^ (b + 1)) := by rw [nI_1, nI_1, bc_shr (by omega) (by omega)]
      have e2 : ((nI z + 1) >>> (nI b &&& 31)) &&& 1 = nI ((z + 1) / 2 ^ b % 2) := by rw [nI_1, bc_bit (by omega) (by omega)]
      have ed : (z + 1) / 2 ^ (b + 1) = (z + 1) / 2 ^ b / 2 := by rw [Nat.pow_succ, Nat.div_div_eq_div_mul]
      have hq : (z + 1) / 2 ^ (b + 1) ≤ z + 1 := Nat.div_le_self _ _
      refine pk_le ((z + 1) / 2 ^ (b + 1)) 0 (fun w => ?_) (fun w => ?_) (hx := e1)
      · refine nm_r (nI_1 b) (ih0 (b + 1) s (by omega) (by omega) hs ?_)
        rw [hY', show (z + 1) / 2 ^ b - 1 = 0 by omega, show (z + 1) / 2 ^ (b + 1) - 1 = 0 by omega]
      · rw [bc_bij_s (show 0 < (z + 1) / 2 ^ b - 1 by omega), show (z + 1) / 2 ^ b - 1 + 1 = (z + 1) / 2 ^ b by omega, List.cons_append] at hY'
        obtain ⟨d1, d2, d3⟩ := bc_dropc hY'
        have hm2 : (z + 1) / 2 ^ b % 2 < 2 := Nat.mod_lt _ (by omega)
        refine nm_r e2 (bc_symbolX hx (Or.inr hu0) d1 (fun u hu => ?_))
        have g := ih (b + 1) (s + 1) u (by omega) (by omega) hu (by omega) (by rw [d3, show ((z + 1) / 2 ^ b - 1 - 1) / 2 = (z + 1) / 2 ^ (b + 1) - 1 by omega])
        obtain ⟨f0, f1, f2, f3, f4, a1, a2, a3, a4, a5, a6, a7, a8, a9, a10, a11, a12, a13, a14, a15⟩ := u
        rw [bc_km_s, d2] at g
        refine br_t (by rw [d2]) (nm_r (by rw [bc_sh1 (by omega), bc_or]) (nm_r (nI_1 s) (nm_r (nI_1 b) g)))
end
end
section
section
variable {post : Int32 → St0 → Prop} {mc ms kc ks : Nat} {W cw : Nat} {x2 : Int32} {t o : Nat → Nat}
theorem bc_L371 {f0 f1 f2 f3 f4 : Int32} {a1 a2 a3 a4 a5 a6 a7 a8 a9 a10 a11 a12 : Nat → Int32} {a13 : Nat → Int64} {a14 a15 : Nat → Int32} (hW : W < 2 ^ 64) (hcw : cw < 2 ^ 24) (hx : bc_ctx (bc_T W) 8 t o) (hd : ∀ j, j < 8 → bc_dg cw j = bc_col (bc_T W) o 8 j) (H : post 1 ())
    (hu : bc_CS (bc_T W) 8 t o (f0, f1, f2, f3, f4, a1, a2, a3, a4, a5, a6, a7, a8, a9, a10, a11, a12, a13, a14, a15)) :
    ∀ (m k : Nat), 7 - k < m → k ≤ 7 → wL_lawOf_371 post mc ms (lN W) x2 (lN cw) (nI (bc_Y (bc_T W) o 8).length) (nI (bc_km (fun k => (bc_Y (bc_T W) o 8).getD k 0) (bc_Y (bc_T W) o 8).length)) kc ks f0 f1 f2 f3 f4 a1 a2 a3 a4 a5 a6 a7 a8 a9 a10 a11 a12 a13 a14 a15 m (nI (bc_bits (bc_km (fun k => (bc_Y (bc_T W) o 8).getD k 0) (bc_Y (bc_T W) o 8).length) k)) (nI k) := by
  have h7 := bc_Y_at (T := bc_T W) (o := o) hx.2.1 8
  have hY := bc_Y_len (bc_T W) o 8
  have ht := hx.2.2.2.2
  intro m
  induction m with
  | zero => intro k h; omega
  | succ m ih =>
    intro k h hk
    refine pk_le 7 k (fun y => ?_) (fun y => ?_)
    · have ek : k = 7 := by omega
      subst ek
      refine bc_symbolsX hx (Or.inr hu) (fun u hu => ?_)
      obtain ⟨f0, f1, f2, f3, f4, a1, a2, a3, a4, a5, a6, a7, a8, a9, a10, a11, a12, a13, a14, a15⟩ := u
      refine br_t rfl ?_
      refine bc_symbolN hx (Or.inr hu) (Nat.le_refl _) (by omega) (fun u hu => ?_)
      obtain ⟨f0, f1, f2, f3, f4, a1, a2, a3, a4, a5, a6, a7, a8, a9, a10, a11, a12, a13, a14, a15⟩ := u
      refine br_t rfl ?_
      refine bc_diffX hx (Or.inr hu) (fun u hu => ?_)
      obtain ⟨f0, f1, f2, f3, f4, a1, a2, a3, a4, a5, a6, a7, a8, a9, a10, a11, a12, a13, a14, a15⟩ := u
      refine br_t rfl ?_
      refine bc_repOK (c := 8) (bc_TX_C hu) (by omega) (by omega) (by omega) (fun j hj => by rw [ht j hj]; exact bc_T_6 W j) (fun t1 u e1 e2 hu => ?_)
      have ht1 : ∀ j, j < 16 → t1 j = bc_T W j := by
        intro j hj
        by_cases z : j < 8
        · rw [e1 j z, ht j z]
        · have := e2 (j - 8) (by omega)
          rw [show 8 + (j - 8) = j by omega] at this
          rw [this, ht _ (by omega), ← bc_T_8]
          congr 1
          omega
      obtain ⟨f0, f1, f2, f3, f4, a1, a2, a3, a4, a5, a6, a7, a8, a9, a10, a11, a12, a13, a14, a15⟩ := u
      refine br_t rfl ?_
      refine bc_repB (c := 17) (bc_TX_U hu) (by omega) (by omega) (by omega) ?_
      refine br_t rfl ?_
      refine bc_repOK (c := 16) (bc_TX_U hu) (by omega) (by omega) (by omega) (fun j hj => by rw [ht1 j hj]; exact bc_T_6 W j) (fun t2 u e3 e4 hu => ?_)
      have ht2 : ∀ j, j < 32 → t2 j = bc_T W j := by
        intro j hj
        by_cases z : j < 16
        · rw [e3 j z, ht1 j z]
        · have := e4 (j - 16) (by omega)
          rw [show 8 + 8 + (j - 16) = j by omega] at this
          rw [this, ht1 _ (by omega), ← bc_T_8, ← bc_T_8]
          congr 1
          omega
      obtain ⟨o32, ho32⟩ := bc_ord_ex (bc_T W) (n := 32) (by omega)
      have hx2 : bc_ctx (bc_T W) 32 t2 o32 := ⟨by omega, bc_T_6 W, fun i => bc_per_mul (bc_T_8 W) i 4, ho32, ht2⟩
      have hu' : bc_US 32 t2 u := hu
      clear hu
      obtain ⟨f0, f1, f2, f3, f4, a1, a2, a3, a4, a5, a6, a7, a8, a9, a10, a11, a12, a13, a14, a15⟩ := u
      refine br_t rfl ?_
      refine bc_repF (c := 1) (bc_TX_U hu') (by omega) (by omega) (by omega) (by omega) ?_
      refine br_t rfl ?_
      refine bc_typeF (bc_TX_U hu') ?_
      refine br_t rfl ?_
      refine bc_typeF (bc_TX_U hu') ?_
      refine br_t rfl ?_
      refine bc_rep0 (bc_TX_U hu') ?_
      refine br_t rfl ?_
      refine bc_decodedX hx2 (Or.inl hu') (i := 31) (by omega) (fun u hu => ?_)
      obtain ⟨f0, f1, f2, f3, f4, a1, a2, a3, a4, a5, a6, a7, a8, a9, a10, a11, a12, a13, a14, a15⟩ := u
      refine bc_letter hW (i := 7) (by omega) (br_t (by rw [← bc_T_mod W 31]) ?_)
      refine bc_decodedN (bc_TX_C hu) (i := 32) (by omega) (by omega) ?_
      refine br_t rfl ?_
      exact ⟨33, bc_L532 hW hcw hx.2.2.2.1 hd hx2 H 33 0 _ (by omega) (by omega) (Or.inr hu)⟩
    · have hM := bc_km_lt h7 (bc_Y (bc_T W) o 8).length
      have g := ih (k + 1) (by omega) (by omega)
      refine nm_r (e' := nI (bc_bits (bc_km (fun k => (bc_Y (bc_T W) o 8).getD k 0) (bc_Y (bc_T W) o 8).length) (k + 1))) ?_ (nm_r (nI_1 k) g)
      rw [bc_bit (by omega) (by omega), nI_add]
      rfl
theorem bc_L164 (hW : W < 2 ^ 64) (hcw : cw < 2 ^ 24) (hx : bc_ctx (bc_T W) 8 t o) (hd : ∀ j, j < 8 → bc_dg cw j = bc_col (bc_T W) o 8 j) (H : post 1 ()) :
    ∀ (m i z s : Nat) (u : St2), 9 - i < m → i ≤ 9 → z ≤ i → bc_CS (bc_T W) 8 t o u → s ≤ (bc_Y (bc_T W) o 8).length → (bc_Y (bc_T W) o 8).drop s = bc_todo (bc_rnk (bc_T W) o 8) 8 i z →
      (match u with | (f0, f1, f2, f3, f4, a1, a2, a3, a4, a5, a6, a7, a8, a9, a10, a11, a12, a13, a14, a15) => wL_lawOf_164 post mc ms (lN W) x2 (lN cw) kc ks m (nI s) (nI z) (nI (bc_km (fun k => (bc_Y (bc_T W) o 8).getD k 0) s)) (nI i) f0 f1 f2 f3 f4 a1 a2 a3 a4 a5 a6 a7 a8 a9 a10 a11 a12 a13 a14 a15) := by
  intro m
  induction m with
  | zero => intro i z s u h; omega
  | succ m ih =>
    intro i z s u h hi hz hu hs hY
    have hu0 := hu
    obtain ⟨f0, f1, f2, f3, f4, a1, a2, a3, a4, a5, a6, a7, a8, a9, a10, a11, a12, a13, a14, a15⟩ := u
    refine pk_lt 8 i (fun y => ?_) (fun y => ?_)
    · have ei : i = 9 := by omega
      subst ei
      have e : bc_todo (bc_rnk (bc_T W) o 8) 8 9 z = [] := if_neg (by omega)
      rw [e] at hY
      have el : s = (bc_Y (bc_T W) o 8).length := by
        have := List.drop_eq_nil_iff.mp hY
        omega
      subst el
      exact ⟨8, bc_L371 hW hcw hx hd H hu0 8 0 (by omega) (by omega)⟩
    · have nx : ∀ (rr : Nat) (u : St2), bc_CS (bc_T W) 8 t o u → (i < 8 → rr = bc_rnk (bc_T W) o 8 i) → (i = 8 → rr = 9) →
          (match u with | (f0, f1, f2, f3, f4, a1, a2, a3, a4, a5, a6, a7, a8, a9, a10, a11, a12, a13, a14, a15) => wL_lawOf_232 post mc ms (wL_lawOf_164 post mc ms (lN W) x2 (lN cw) kc ks m) (lN W) x2 (lN cw) (nI s) (nI z) (nI (bc_km (fun k => (bc_Y (bc_T W) o 8).getD k 0) s)) (nI i) (nI rr) kc ks f0 f1 f2 f3 f4 a1 a2 a3 a4 a5 a6 a7 a8 a9 a10 a11 a12 a13 a14 a15) := by
        intro rr u hu h1 h2
        have hr6 := bc_rnk_lt (T := bc_T W) (o := o) hx.2.1 8 i
        have hr9 : rr < 10 := by
          by_cases w : i = 8
          · have := h2 w
            omega
          · have := h1 (by omega)
            omega
        have A := fun (w : rr = 0) (h8 : i < 8) => ih (i + 1) (z + 1) s u (by omega) (by omega) (by omega) hu hs (by rw [hY, bc_todo_0 z h8 (by rw [← h1 h8]; exact w)])
        have B := fun (w : rr ≠ 0) => bc_L246 (post := post) (mc := mc) (ms := ms) (kc := kc) (ks := ks) (cw := cw) (x2 := x2) (J := wL_lawOf_164 post mc ms (lN W) x2 (lN cw) kc ks m) (rr := rr) (z := z) hx y (by omega) h1 (fun s' u' hu' hs' hY' => ih (i + 1) 0 s' u' (by omega) (by omega) (by omega) hu' hs' hY') 5 0 s u (by omega) (by omega) hu hs (by
          rw [hY, bc_todo_c z y (by
            by_cases w2 : i = 8
            · exact Or.inl w2
            · exact Or.inr (by rw [← h1 (by omega)]; exact w)), Nat.pow_zero, Nat.div_one, Nat.add_sub_cancel])
        obtain ⟨f0, f1, f2, f3, f4, a1, a2, a3, a4, a5, a6, a7, a8, a9, a10, a11, a12, a13, a14, a15⟩ := u
        refine pk_eq rr 0 (fun w => nm_r (nI_1 z) (nm_r (nI_1 i) (A w ?_))) (fun w => ⟨5, B w⟩)
        apply Classical.byContradiction
        intro w2
        have := h2 (by omega)
        omega
      refine pk_le 8 i (fun w => ?_) (fun w => ?_)
      · have ei : i = 8 := by omega
        subst ei
        exact br_t (by decide) (nx 9 _ hu0 (fun w => absurd w (by omega)) (fun _ => rfl))
      · refine bc_lrank hcw w hd (fun j => bc_T_6 W _) ?_
        refine br_f (nI_ge (b := 8) w (by decide)) ?_
        refine bc_columnX hx (Or.inr hu0) w (fun u hu => ?_)
        obtain ⟨f0, f1, f2, f3, f4, a1, a2, a3, a4, a5, a6, a7, a8, a9, a10, a11, a12, a13, a14, a15⟩ := u
        refine br_t (by rw [bc_dig hcw w, hd i w]) ?_
        refine bc_rankX hx (Or.inr hu) w (fun u hu => ?_)
        have g := nx (bc_rnk (bc_T W) o 8 i) u hu (fun _ => rfl) (fun w2 => absurd w2 (by omega))
        obtain ⟨f0, f1, f2, f3, f4, a1, a2, a3, a4, a5, a6, a7, a8, a9, a10, a11, a12, a13, a14, a15⟩ := u
        exact br_t rfl g
/-- the place of the rotation p -/
theorem bc_L69 {f0 f1 f2 f3 f4 : Int32} {a1 a2 a3 a4 a5 a6 a7 a8 a9 a10 a11 a12 : Nat → Int32} {a13 : Nat → Int64} {a14 a15 : Nat → Int32} {J : Int64 → Int32 → Int32 → Prop} {p mk : Nat} (hW : W < 2 ^ 64) (hcw : cw < 2 ^ 24) (hp : p < 8)
    (H : J (lN (cw ||| bc_T W (p + 7) * 2 ^ (3 * bc_rk (bc_G (bc_T W)) 8 p))) (nI (if p = 0 then bc_rk (bc_G (bc_T W)) 8 p else mk)) (nI (p + 1))) :
    ∀ (m q : Nat), 8 - q < m → q ≤ 8 → wL_lawOf_69 post mc ms J (lN W) x2 (lN cw) (nI mk) (nI p) kc ks f0 f1 f2 f3 f4 a1 a2 a3 a4 a5 a6 a7 a8 a9 a10 a11 a12 a13 a14 a15 m (nI (bc_cnt (fun j => decide (bc_G (bc_T W) j < bc_G (bc_T W) p)) q)) (nI q) := by
  intro m
  induction m with
  | zero => intro q h; omega
  | succ m ih =>
    intro q h hq
    refine pk_le 8 q (fun y => ?_) (fun y => ?_)
    · have eq : q = 8 := by omega
      subst eq
      have hr : bc_rk (bc_G (bc_T W)) 8 p < 8 := bc_rk_lt hp
      have h6 := bc_T_6 W (p + 7)
      have hb : bc_T W (p + 7) * 2 ^ (3 * bc_rk (bc_G (bc_T W)) 8 p) < 2 ^ 64 := by
        have : 2 ^ (3 * bc_rk (bc_G (bc_T W)) 8 p) ≤ 2 ^ 21 := Nat.pow_le_pow_right (by omega) (by omega)
        have := Nat.mul_le_mul (show bc_T W (p + 7) ≤ 6 by omega) this
        omega
      refine bc_letter7 hW (k := 7) (by omega) (nm_r (e' := lN (cw ||| bc_T W (p + 7) * 2 ^ (3 * bc_rk (bc_G (bc_T W)) 8 p))) ?_ ?_)
      · rw [show (3 : Int32) = nI 3 from rfl, pk_mul, nI_l (by omega), wb_shl _ (by show 3 * bc_rk (bc_G (bc_T W)) 8 p < 64; omega)]
        exact wb_or (by omega) hb
      · refine pk_eq p 0 (fun e => nm_r (nI_1 p) ?_) (fun e => nm_r (nI_1 p) ?_)
        · rw [if_pos e] at H
          exact H
        · rw [if_neg e] at H
          exact H
    · have g := ih (q + 1) (by omega) (by omega)
      rw [bc_cnt_s] at g
      refine pk_eq q p (fun e => ?_) (fun e => ?_)
      · rw [if_neg (by rw [e]; simp), Nat.add_zero] at g
        exact nm_r (nI_1 q) g
      · refine bc_before hW y hp (fun w => ?_) (fun w => ?_)
        · rw [if_pos (by simpa using w)] at g
          exact br_f (by decide) (nm_r (nI_1 _) (nm_r (nI_1 q) g))
        · rw [if_neg (by simpa using w), Nat.add_zero] at g
          exact br_t rfl (nm_r (nI_1 q) g)
theorem bc_L56 {f0 f1 f2 f3 f4 : Int32} {a1 a2 a3 a4 a5 a6 a7 a8 a9 a10 a11 a12 : Nat → Int32} {a13 : Nat → Int64} {a14 a15 : Nat → Int32} (hW : W < 2 ^ 64) (hx : bc_ctx (bc_T W) 8 t o) (H : post 1 ()) (hu : bc_US 8 t (f0, f1, f2, f3, f4, a1, a2, a3, a4, a5, a6, a7, a8, a9, a10, a11, a12, a13, a14, a15)) :
    ∀ (m p cw mk : Nat), 8 - p < m → p ≤ 8 → cw < 2 ^ 24 → (∀ j, j < 8 → bc_dg cw j = if o j < p then bc_col (bc_T W) o 8 j else 0) → (0 < p → mk = bc_rk (bc_G (bc_T W)) 8 0) →
      wL_lawOf_56 post mc ms (lN W) x2 kc ks f0 f1 f2 f3 f4 a1 a2 a3 a4 a5 a6 a7 a8 a9 a10 a11 a12 a13 a14 a15 m (lN cw) (nI mk) (nI p) := by
  have ho := hx.2.2.2.1
  intro m
  induction m with
  | zero => intro p cw mk h; omega
  | succ m ih =>
    intro p cw mk h hp hcw hd hm
    refine pk_le 8 p (fun y => ?_) (fun y => ?_)
    · have hd' : ∀ j, j < 8 → bc_dg cw j = bc_col (bc_T W) o 8 j := by
        intro j hj
        have := ho.1 j hj
        rw [hd j hj, if_pos (by omega)]
      refine bc_markX hx (by omega) (Or.inl hu) (fun u hu => ?_)
      have g := bc_L164 (post := post) (mc := mc) (ms := ms) (kc := kc) (ks := ks) (x2 := x2) hW hcw hx hd' H 10 0 0 0 u (by omega) (by omega) (by omega) hu (by omega) rfl
      obtain ⟨f0, f1, f2, f3, f4, a1, a2, a3, a4, a5, a6, a7, a8, a9, a10, a11, a12, a13, a14, a15⟩ := u
      refine br_t (by rw [hm (by omega)]) ⟨10, g⟩
    · have hr : bc_rk (bc_G (bc_T W)) 8 p < 8 := bc_rk_lt y
      have h6 := bc_T_6 W (p + 7)
      have hor : o (bc_rk (bc_G (bc_T W)) 8 p) = p := bc_ord_at (by omega) ho y
      refine ⟨9, bc_L69 hW hcw y (ih (p + 1) _ _ (by omega) (by omega) ?_ (fun j hj => ?_) (fun _ => ?_)) 9 0 (by omega) (by omega)⟩
      · refine Nat.or_lt_two_pow hcw ?_
        have : 2 ^ (3 * bc_rk (bc_G (bc_T W)) 8 p) ≤ 2 ^ 21 := Nat.pow_le_pow_right (by omega) (by omega)
        have := Nat.mul_le_mul (show bc_T W (p + 7) ≤ 6 by omega) this
        omega
      · rw [bc_dg_or, bc_dg_one (by omega), hd j hj]
        by_cases e : j = bc_rk (bc_G (bc_T W)) 8 p
        · subst e
          rw [hor, if_neg (by omega), if_pos rfl, if_pos (by omega), Nat.zero_or]
          show _ = bc_T W (o (bc_rk (bc_G (bc_T W)) 8 p) + 8 - 1)
          rw [hor]
          rfl
        · have hne : o j ≠ p := fun w => e (by rw [← w]; exact (bc_ord_rk ho hj).symm)
          rw [if_neg e, Nat.or_zero]
          by_cases w : o j < p
          · rw [if_pos w, if_pos (by omega)]
          · rw [if_neg w, if_neg (by omega)]
      · by_cases w : p = 0
        · rw [if_pos w, w]
        · rw [if_neg w]
          exact hm (by omega)
theorem bc_L11 (hW : W < 2 ^ 64) (H : post 1 ()) :
    ∀ (m i : Nat) (t : Nat → Nat) (u : St2), 8 - i < m → i ≤ 8 → (∀ j, j < i → t j = bc_T W j) → bc_US i t u → (match u with | (f0, f1, f2, f3, f4, a1, a2, a3, a4, a5, a6, a7, a8, a9, a10, a11, a12, a13, a14, a15) => wL_lawOf_11 post mc ms (lN W) x2 kc ks m (nI i) f0 f1 f2 f3 f4 a1 a2 a3 a4 a5 a6 a7 a8 a9 a10 a11 a12 a13 a14 a15) := by
  intro m
  induction m with
  | zero => intro i t u h; omega
  | succ m ih =>
    intro i t u h hi ht hu
    have hu0 := hu
    obtain ⟨f0, f1, f2, f3, f4, a1, a2, a3, a4, a5, a6, a7, a8, a9, a10, a11, a12, a13, a14, a15⟩ := u
    refine pk_le 8 i (fun y => ?_) (fun y => ?_)
    · have ei : i = 8 := by omega
      subst ei
      obtain ⟨o, ho⟩ := bc_ord_ex (bc_T W) (n := 8) (by omega)
      refine ⟨9, bc_L56 (t := t) (o := o) hW ⟨by omega, bc_T_6 W, bc_T_8 W, ho, ht⟩ H hu0 9 0 0 0 (by omega) (by omega) (by omega) (fun j hj => ?_) (fun w => absurd w (by omega))⟩
      rw [if_neg (by omega)]
      unfold bc_dg
      rw [Nat.zero_div]
    · refine bc_letter hW y (bc_typeU hu0 (by omega) (bc_T_6 W i) (fun u hu => ?_))
      have g := ih (i + 1) _ u (by omega) (by omega) (bc_fill ht) hu
      obtain ⟨f0, f1, f2, f3, f4, a1, a2, a3, a4, a5, a6, a7, a8, a9, a10, a11, a12, a13, a14, a15⟩ := u
      exact br_t (nI_1 i).symm (nm_r (nI_1 i) g)
theorem bc_lawOf {x : Int64} (H : post 1 ()) : wpL_lawOf post 16 346 () x x2 := by
  obtain ⟨W, hW, rfl⟩ := wb_of x
  refine ⟨by omega, by omega, 15, 326, by omega, by omega, ?_⟩
  refine ⟨by omega, by omega, by omega, by omega, by omega, by omega, by omega, by omega, by omega, by omega, by omega, by omega, by omega, by omega, by omega, by omega, by omega, by omega, by omega, by omega, by omega, by omega, by omega, by omega, by omega, by omega, by omega, by omega, by omega, by omega, ?_⟩
  exact ⟨9, bc_L11 hW H 9 0 (fun _ => 0) _ (by omega) (by omega) (fun j hj => absurd hj (by omega)) ⟨_, _, _, _, _, _, _, _, _, _, _, _, _, _, _, _, _, rfl⟩⟩
end
theorem bc_cell {post : Int32 → Prop} {L : Nat} {xs : Nat → Int32} (hL : L ≤ 3) {i : Nat} (hi : i < 3) (H : ∀ x, post x) : wpL_cellAt post L xs () (nI i) :=
  pk_le L i (fun _ => H 0) (fun z => ⟨pk_in i L z, H _⟩)
end
section
theorem i_vc (xs : Nat → Int32) (L : Nat) (hL : L ≤ 3) : wpL_law (fun r => r = 1) L xs :=
  bc_cell (i := 0) hL (by omega) (fun _ => bc_cell (i := 1) hL (by omega) (fun _ => bc_cell (i := 2) hL (by omega) (fun _ => ⟨16, 346, by omega, by omega, bc_lawOf rfl⟩)))
end
