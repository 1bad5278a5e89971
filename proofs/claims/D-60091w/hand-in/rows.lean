section
/-! ===== how many places have a property ===== -/
def fb_ct (p : Nat → Bool) : Nat → Nat
  | 0 => 0
  | n + 1 => fb_ct p n + (if p n then 1 else 0)
theorem fb_ct_succ (p : Nat → Bool) (n : Nat) : fb_ct p (n + 1) = fb_ct p n + (if p n then 1 else 0) := rfl
theorem fb_ct_le (p : Nat → Bool) : ∀ n, fb_ct p n ≤ n
  | 0 => Nat.le_refl _
  | n + 1 => by
    have h := fb_ct_le p n
    rw [fb_ct_succ]
    split <;> omega
theorem fb_ct_step (p : Nat → Bool) (m : Nat) : ∀ n, fb_ct p m ≤ fb_ct p (m + n)
  | 0 => Nat.le_refl _
  | n + 1 => by
    have h := fb_ct_step p m n
    show fb_ct p m ≤ fb_ct p (m + n + 1)
    rw [fb_ct_succ]
    omega
theorem fb_ct_mono (p : Nat → Bool) {m n : Nat} (h : m ≤ n) : fb_ct p m ≤ fb_ct p n := by
  have := fb_ct_step p m (n - m)
  rwa [Nat.add_sub_cancel' h] at this
theorem fb_ct_cong {p q : Nat → Bool} : ∀ {n : Nat}, (∀ k, k < n → p k = q k) → fb_ct p n = fb_ct q n
  | 0, _ => rfl
  | n + 1, h => by
    rw [fb_ct_succ, fb_ct_succ, fb_ct_cong (fun k hk => h k (by omega)), h n (by omega)]
/-- one place changed -/
theorem fb_ct_out (p : Nat → Bool) (b : Bool) {i n : Nat} (h : n ≤ i) : fb_ct (fun k => if k = i then b else p k) n = fb_ct p n :=
  fb_ct_cong fun k hk => if_neg (by omega)
theorem fb_ct_upd (p : Nat → Bool) (b : Bool) {i : Nat} : ∀ {n : Nat}, i < n → fb_ct (fun k => if k = i then b else p k) n + (if p i then 1 else 0) = fb_ct p n + (if b then 1 else 0)
  | 0, h => absurd h (Nat.not_lt_zero i)
  | n + 1, h => by
    rw [fb_ct_succ, fb_ct_succ]
    rcases Nat.lt_or_ge i n with q | q
    · have := fb_ct_upd p b q
      have e : (if n = i then b else p n) = p n := if_neg (by omega)
      rw [e]
      omega
    · have e : i = n := by omega
      subst e
      rw [fb_ct_out p b (Nat.le_refl _)]
      simp only [if_true]
      omega
theorem fb_ct_sub {p q : Nat → Bool} : ∀ {n : Nat}, (∀ k, k < n → p k = true → q k = true) → fb_ct p n ≤ fb_ct q n
  | 0, _ => Nat.le_refl _
  | n + 1, h => by
    have h1 := fb_ct_sub (n := n) (p := p) (q := q) (fun k hk => h k (by omega))
    have h2 := h n (by omega)
    rw [fb_ct_succ, fb_ct_succ]
    cases hp : p n <;> cases hq : q n <;> simp_all <;> omega
theorem fb_ct_or {p q : Nat → Bool} : ∀ {n : Nat}, (∀ k, k < n → ¬ (p k = true ∧ q k = true)) → fb_ct (fun k => p k || q k) n = fb_ct p n + fb_ct q n
  | 0, _ => rfl
  | n + 1, h => by
    have h1 := fb_ct_or (n := n) (p := p) (q := q) (fun k hk => h k (by omega))
    have h2 := h n (by omega)
    rw [fb_ct_succ, fb_ct_succ, fb_ct_succ, h1]
    cases hp : p n <;> cases hq : q n <;> simp_all <;> omega
theorem fb_ct_not (p : Nat → Bool) : ∀ n, fb_ct p n + fb_ct (fun k => !p k) n = n
  | 0 => rfl
  | n + 1 => by
    have h := fb_ct_not p n
    rw [fb_ct_succ, fb_ct_succ]
    cases p n <;> simp <;> omega
theorem fb_ct_split (p : Nat → Bool) (m : Nat) : ∀ n, fb_ct p (m + n) = fb_ct p m + fb_ct (fun k => p (m + k)) n
  | 0 => rfl
  | n + 1 => by
    have h := fb_ct_split p m n
    show fb_ct p (m + n + 1) = _
    rw [fb_ct_succ, fb_ct_succ, h, Nat.add_assoc]
theorem fb_ct_zero {p : Nat → Bool} : ∀ {n : Nat}, fb_ct p n = 0 ↔ ∀ k, k < n → p k = false
  | 0 => ⟨fun _ k hk => absurd hk (Nat.not_lt_zero k), fun _ => rfl⟩
  | n + 1 => by
    have h := fb_ct_zero (p := p) (n := n)
    rw [fb_ct_succ]
    constructor
    · intro e k hk
      have e1 : fb_ct p n = 0 := by omega
      rcases Nat.lt_or_ge k n with q | q
      · exact h.mp e1 k q
      · have ek : k = n := by omega
        subst ek
        cases hp : p k
        · rfl
        · simp [hp] at e
    · intro a
      rw [h.mpr (fun k hk => a k (by omega)), a n (by omega)]
      rfl
theorem fb_ct_pos {p : Nat → Bool} {n : Nat} : 0 < fb_ct p n ↔ ∃ k, k < n ∧ p k = true := by
  constructor
  · intro h
    refine Classical.byContradiction fun hx => ?_
    have := fb_ct_zero.mpr (fun k hk => by
      cases hp : p k
      · rfl
      · exact absurd ⟨k, hk, hp⟩ hx : ∀ k, k < n → p k = false)
    omega
  · rintro ⟨k, hk, hp⟩
    rcases Nat.eq_zero_or_pos (fb_ct p n) with e | e
    · have := fb_ct_zero.mp e k hk
      rw [this] at hp
      cases hp
    · exact e
theorem fb_ct_all {p : Nat → Bool} {n : Nat} : fb_ct p n = n ↔ ∀ k, k < n → p k = true := by
  have h := fb_ct_not p n
  constructor
  · intro e k hk
    have z : fb_ct (fun k => !p k) n = 0 := by omega
    have := fb_ct_zero.mp z k hk
    cases hp : p k
    · simp [hp] at this
    · rfl
  · intro a
    have z : fb_ct (fun k => !p k) n = 0 := fb_ct_zero.mpr (fun k hk => by simp [a k hk])
    omega
/-- the k-th place with the property -/
theorem fb_ct_kth {p : Nat → Bool} {k : Nat} : ∀ {n : Nat}, k < fb_ct p n → ∃ i, i < n ∧ p i = true ∧ fb_ct p i = k
  | 0, h => absurd h (Nat.not_lt_zero k)
  | n + 1, h => by
    rcases Nat.lt_or_ge k (fb_ct p n) with q | q
    · obtain ⟨i, h1, h2⟩ := fb_ct_kth q
      exact ⟨i, by omega, h2⟩
    · rw [fb_ct_succ] at h
      cases hp : p n
      · simp [hp] at h; omega
      · simp [hp] at h
        exact ⟨n, by omega, hp, by omega⟩
theorem fb_ct_kth_one {p : Nat → Bool} {i j : Nat} (hi : p i = true) (hj : p j = true) (e : fb_ct p i = fb_ct p j) : i = j := by
  have key : ∀ a b : Nat, a < b → p a = true → fb_ct p a < fb_ct p b := by
    intro a b hab ha
    have h := fb_ct_mono p (show a + 1 ≤ b from hab)
    rw [fb_ct_succ, ha] at h
    simp at h
    omega
  rcases Nat.lt_trichotomy i j with q | q | q
  · have := key i j q hi; omega
  · exact q
  · have := key j i q hj; omega
/-! ===== sums over a range: one place changed, parts, bounds ===== -/
def fb_sm (f : Nat → Nat) : Nat → Nat
  | 0 => 0
  | n + 1 => fb_sm f n + f n
theorem fb_sm_succ (f : Nat → Nat) (n : Nat) : fb_sm f (n + 1) = fb_sm f n + f n := rfl
theorem fb_sm_cong {f g : Nat → Nat} : ∀ {n : Nat}, (∀ k, k < n → f k = g k) → fb_sm f n = fb_sm g n
  | 0, _ => rfl
  | n + 1, h => by rw [fb_sm_succ, fb_sm_succ, fb_sm_cong (fun k hk => h k (by omega)), h n (by omega)]
theorem fb_sm_out (f : Nat → Nat) (v : Nat) {i n : Nat} (h : n ≤ i) : fb_sm (fun k => if k = i then v else f k) n = fb_sm f n :=
  fb_sm_cong fun k hk => if_neg (by omega)
theorem fb_sm_upd (f : Nat → Nat) (v : Nat) {i : Nat} : ∀ {n : Nat}, i < n → fb_sm (fun k => if k = i then v else f k) n + f i = fb_sm f n + v
  | 0, h => absurd h (Nat.not_lt_zero i)
  | n + 1, h => by
    rw [fb_sm_succ, fb_sm_succ]
    rcases Nat.lt_or_ge i n with q | q
    · have := fb_sm_upd f v q
      have e : (if n = i then v else f n) = f n := if_neg (by omega)
      rw [e]
      omega
    · have e : i = n := by omega
      subst e
      rw [fb_sm_out f v (Nat.le_refl _)]
      simp only [if_true]
      omega
theorem fb_sm_add (f g : Nat → Nat) : ∀ n, fb_sm (fun k => f k + g k) n = fb_sm f n + fb_sm g n
  | 0 => rfl
  | n + 1 => by
    have h := fb_sm_add f g n
    rw [fb_sm_succ, fb_sm_succ, fb_sm_succ, h]
    omega
theorem fb_sm_le {f g : Nat → Nat} : ∀ {n : Nat}, (∀ k, k < n → f k ≤ g k) → fb_sm f n ≤ fb_sm g n
  | 0, _ => Nat.le_refl _
  | n + 1, h => by
    have h1 := fb_sm_le (n := n) (f := f) (g := g) (fun k hk => h k (by omega))
    have h2 := h n (by omega)
    rw [fb_sm_succ, fb_sm_succ]
    omega
theorem fb_sm_const (c : Nat) : ∀ n, fb_sm (fun _ => c) n = n * c
  | 0 => by rw [Nat.zero_mul]; rfl
  | n + 1 => by rw [fb_sm_succ, fb_sm_const c n, Nat.succ_mul]
theorem fb_sm_bound {f : Nat → Nat} {c n : Nat} (h : ∀ k, k < n → f k ≤ c) : fb_sm f n ≤ n * c := by
  rw [← fb_sm_const c n]
  exact fb_sm_le h
theorem fb_sm_mono (f : Nat → Nat) (m : Nat) : ∀ n, fb_sm f m ≤ fb_sm f (m + n)
  | 0 => Nat.le_refl _
  | n + 1 => by
    have h := fb_sm_mono f m n
    show fb_sm f m ≤ fb_sm f (m + n + 1)
    rw [fb_sm_succ]
    omega
theorem fb_sm_part (f : Nat → Nat) {i n : Nat} (h : i < n) : fb_sm f i + f i ≤ fb_sm f n := by
  have := fb_sm_mono f (i + 1) (n - (i + 1))
  rw [fb_sm_succ, show i + 1 + (n - (i + 1)) = n by omega] at this
  exact this
theorem fb_sm_split (f : Nat → Nat) (m : Nat) : ∀ n, fb_sm f (m + n) = fb_sm f m + fb_sm (fun k => f (m + k)) n
  | 0 => rfl
  | n + 1 => by
    have h := fb_sm_split f m n
    show fb_sm f (m + n + 1) = _
    rw [fb_sm_succ, fb_sm_succ, h, Nat.add_assoc]
theorem fb_sm_zero {f : Nat → Nat} {n : Nat} (h : fb_sm f n = 0) : ∀ k, k < n → f k = 0 := fun k hk => by
  have := fb_sm_part f hk
  omega
/-- the same over whole numbers -/
def fb_si (f : Nat → Int) : Nat → Int
  | 0 => 0
  | n + 1 => fb_si f n + f n
theorem fb_si_succ (f : Nat → Int) (n : Nat) : fb_si f (n + 1) = fb_si f n + f n := rfl
theorem fb_si_cong {f g : Nat → Int} : ∀ {n : Nat}, (∀ k, k < n → f k = g k) → fb_si f n = fb_si g n
  | 0, _ => rfl
  | n + 1, h => by rw [fb_si_succ, fb_si_succ, fb_si_cong (fun k hk => h k (by omega)), h n (by omega)]
theorem fb_si_out (f : Nat → Int) (v : Int) {i n : Nat} (h : n ≤ i) : fb_si (fun k => if k = i then v else f k) n = fb_si f n :=
  fb_si_cong fun k hk => if_neg (by omega)
theorem fb_si_upd (f : Nat → Int) (v : Int) {i : Nat} : ∀ {n : Nat}, i < n → fb_si (fun k => if k = i then v else f k) n = fb_si f n - f i + v
  | 0, h => absurd h (Nat.not_lt_zero i)
  | n + 1, h => by
    rw [fb_si_succ, fb_si_succ]
    rcases Nat.lt_or_ge i n with q | q
    · have := fb_si_upd f v q
      have e : (if n = i then v else f n) = f n := if_neg (by omega)
      rw [e]
      omega
    · have e : i = n := by omega
      subst e
      rw [fb_si_out f v (Nat.le_refl _)]
      simp only [if_true]
      omega
theorem fb_si_add (f g : Nat → Int) : ∀ n, fb_si (fun k => f k + g k) n = fb_si f n + fb_si g n
  | 0 => rfl
  | n + 1 => by
    have h := fb_si_add f g n
    rw [fb_si_succ, fb_si_succ, fb_si_succ, h]
    omega
theorem fb_si_sub (f g : Nat → Int) : ∀ n, fb_si (fun k => f k - g k) n = fb_si f n - fb_si g n
  | 0 => rfl
  | n + 1 => by
    have h := fb_si_sub f g n
    rw [fb_si_succ, fb_si_succ, fb_si_succ, h]
    omega
theorem fb_si_mul (c : Int) (f : Nat → Int) : ∀ n, fb_si (fun k => c * f k) n = c * fb_si f n
  | 0 => (Int.mul_zero c).symm
  | n + 1 => by
    have h := fb_si_mul c f n
    rw [fb_si_succ, fb_si_succ, h, Int.mul_add]
theorem fb_si_split (f : Nat → Int) (m : Nat) : ∀ n, fb_si f (m + n) = fb_si f m + fb_si (fun k => f (m + k)) n
  | 0 => (Int.add_zero _).symm
  | n + 1 => by
    have h := fb_si_split f m n
    show fb_si f (m + n + 1) = _
    rw [fb_si_succ, fb_si_succ, h, Int.add_assoc]
theorem fb_si_nat (f : Nat → Nat) : ∀ n, fb_si (fun k => (f k : Int)) n = (fb_sm f n : Int)
  | 0 => rfl
  | n + 1 => by
    have h := fb_si_nat f n
    rw [fb_si_succ, fb_sm_succ, h]
    omega
theorem fb_si_bound {f : Nat → Int} {c : Int} (hc : 0 ≤ c) : ∀ {n : Nat}, (∀ k, k < n → -c ≤ f k ∧ f k ≤ c) → -(n * c) ≤ fb_si f n ∧ fb_si f n ≤ n * c
  | 0, _ => by simp [fb_si]
  | n + 1, h => by
    have h1 := fb_si_bound (n := n) (f := f) hc (fun k hk => h k (by omega))
    have h2 := h n (by omega)
    have e : ((n + 1 : Nat) : Int) * c = n * c + c := by rw [Int.natCast_add, Int.add_mul]; simp
    rw [fb_si_succ, e]
    omega
end
section
/-! sets of jobs as masks, orders of a set, their lengths -/
def sd (a b : Nat) : Nat := a ^^^ (a &&& b)
theorem sd_bit (a b i : Nat) : (sd a b).testBit i = (a.testBit i && !b.testBit i) := by
  unfold sd
  rw [Nat.testBit_xor, Nat.testBit_and]
  cases a.testBit i <;> cases b.testBit i <;> rfl
theorem bit_one (j i : Nat) : (2 ^ j).testBit i = decide (j = i) := Nat.testBit_two_pow
theorem sd_one (R j i : Nat) : (sd R (2 ^ j)).testBit i = (R.testBit i && !decide (j = i)) := by rw [sd_bit, bit_one]
theorem or_one (U j i : Nat) : (U ||| 2 ^ j).testBit i = (U.testBit i || decide (j = i)) := by rw [Nat.testBit_or, bit_one]
theorem lt64 {M : Nat} : M < 64 ↔ ∀ i, 6 ≤ i → M.testBit i = false := by
  constructor
  · intro h i hi
    have h1 := Nat.pow_le_pow_right (show 0 < 2 by decide) hi
    exact Nat.testBit_lt_two_pow (Nat.lt_of_lt_of_le h h1)
  · intro h
    exact Nat.lt_pow_two_of_testBit (n := 6) M h
theorem bit_lt {M j : Nat} (h : M < 64) (hj : M.testBit j = true) : j < 6 := by
  rcases Nat.lt_or_ge j 6 with q | q
  · exact q
  · rw [lt64.mp h j q] at hj
    cases hj
theorem sd_lt {R : Nat} (S : Nat) (h : R < 64) : sd R S < 64 := lt64.mpr fun i hi => by rw [sd_bit, lt64.mp h i hi]; rfl
theorem or_lt {U j : Nat} (h : U < 64) (hj : j < 6) : U ||| 2 ^ j < 64 := lt64.mpr fun i hi => by
  rw [or_one, lt64.mp h i hi]
  simp
  omega
theorem mask_ext {a b : Nat} (h : ∀ i, a.testBit i = b.testBit i) : a = b := Nat.eq_of_testBit_eq h
theorem sd_sd_one (P U j : Nat) : sd (sd P U) (2 ^ j) = sd P (U ||| 2 ^ j) := mask_ext fun i => by
  rw [sd_bit, sd_bit, sd_bit, Nat.testBit_or]
  cases P.testBit i <;> cases U.testBit i <;> cases (2 ^ j).testBit i <;> rfl
theorem sd_or_one {U j : Nat} (h : U.testBit j = false) : sd (U ||| 2 ^ j) (2 ^ j) = U := mask_ext fun i => by
  rw [sd_one, or_one]
  by_cases e : j = i
  · subst e; simp [h]
  · simp [e]
theorem sd_zero (P : Nat) : sd P 0 = P := mask_ext fun i => by rw [sd_bit]; simp
/-- how many jobs a set has -/
def cnt (M : Nat) : Nat := fb_ct M.testBit 6
theorem cnt_le (M : Nat) : cnt M ≤ 6 := fb_ct_le _ 6
theorem cnt_one {R j : Nat} (hj : j < 6) (h : R.testBit j = true) : cnt (sd R (2 ^ j)) + 1 = cnt R := by
  have h1 := fb_ct_upd R.testBit false (i := j) (n := 6) hj
  rw [h] at h1
  have h2 : fb_ct (sd R (2 ^ j)).testBit 6 = fb_ct (fun k => if k = j then false else R.testBit k) 6 := fb_ct_cong fun k _ => by
    rw [sd_one]
    by_cases e : k = j
    · subst e; simp
    · have : ¬ j = k := fun q => e q.symm
      simp [e, this]
  unfold cnt
  rw [h2]
  simpa using h1
theorem cnt_zero {R : Nat} (hR : R < 64) : cnt R = 0 ↔ R = 0 := by
  unfold cnt
  rw [fb_ct_zero]
  constructor
  · intro h
    exact mask_ext fun i => by
      rcases Nat.lt_or_ge i 6 with q | q
      · rw [h i q]; simp
      · rw [lt64.mp hR i q]; simp
  · intro h k _
    rw [h]; simp
theorem cnt_pos {R : Nat} (hR : R < 64) (h : R ≠ 0) : ∃ j, j < 6 ∧ R.testBit j = true := by
  have h1 : cnt R ≠ 0 := fun e => h ((cnt_zero hR).mp e)
  exact fb_ct_pos.mp (Nat.pos_of_ne_zero h1)
/-- when a job that comes at time t is done -/
def nx (rel len : Nat → Int) (t : Int) (j : Nat) : Int := max t (rel j) + len j
/-- the length of an order, from time t and length L on -/
def run (rel len tl : Nat → Int) : Int → Int → List Nat → Int
  | _, L, [] => L
  | t, L, j :: o => run rel len tl (nx rel len t j) (max L (nx rel len t j + tl j)) o
/-- o is an order of the set R -/
def isOrd : Nat → List Nat → Prop
  | R, [] => R = 0
  | R, j :: o => R.testBit j = true ∧ isOrd (sd R (2 ^ j)) o
/-- in the order o, behind the set U, job b comes only after job a (when a is a job) -/
def okO (a b : Int) : Nat → List Nat → Prop
  | _, [] => True
  | U, j :: o => ¬ (0 ≤ a ∧ (j : Int) = b ∧ U.testBit a.toNat = false) ∧ okO a b (U ||| 2 ^ j) o
theorem okO_no {a b : Int} (h : a < 0) : ∀ (o : List Nat) (U : Nat), okO a b U o
  | [], _ => trivial
  | j :: o, U => ⟨fun q => by omega, okO_no h o _⟩
theorem run_ge (rel len tl : Nat → Int) : ∀ (o : List Nat) (t L : Int), L ≤ run rel len tl t L o
  | [], _, _ => Int.le_refl _
  | j :: o, t, L => by
    have h := run_ge rel len tl o (nx rel len t j) (max L (nx rel len t j + tl j))
    show L ≤ run rel len tl (nx rel len t j) (max L (nx rel len t j + tl j)) o
    omega
theorem isOrd_len : ∀ (o : List Nat) (R : Nat), R < 64 → isOrd R o → o.length = cnt R
  | [], R, hR, h => by
    have h : R = 0 := h
    exact ((cnt_zero hR).mpr h).symm
  | j :: o, R, hR, h => by
    obtain ⟨h1, h2⟩ := h
    have h3 := isOrd_len o _ (sd_lt _ hR) h2
    have h4 := cnt_one (bit_lt hR h1) h1
    rw [List.length_cons]
    omega
theorem isOrd_mem : ∀ (o : List Nat) (R : Nat), isOrd R o → ∀ j, j ∈ o ↔ R.testBit j = true
  | [], R, h, j => by
    have h : R = 0 := h
    subst h
    simp
  | i :: o, R, h, j => by
    obtain ⟨h1, h2⟩ := h
    rw [List.mem_cons, isOrd_mem o _ h2 j, sd_one]
    by_cases e : j = i
    · subst e; simp [h1]
    · have e2 : ¬ i = j := fun q => e q.symm
      simp [e, e2]
theorem isOrd_ex : ∀ (n R : Nat), R < 64 → cnt R = n → ∃ o, isOrd R o
  | 0, R, hR, h => ⟨[], (cnt_zero hR).mp h⟩
  | n + 1, R, hR, h => by
    obtain ⟨j, h1, h2⟩ := cnt_pos hR (fun e => by rw [(cnt_zero hR).mpr e] at h; cases h)
    have h3 := cnt_one h1 h2
    obtain ⟨o, ho⟩ := isOrd_ex n (sd R (2 ^ j)) (sd_lt _ hR) (by omega)
    exact ⟨j :: o, h2, ho⟩
/-- the data's bounds -/
def dOK (rel len tl : Nat → Int) : Prop := ∀ j, j < 6 → 0 ≤ rel j ∧ rel j ≤ 200 ∧ 0 ≤ len j ∧ len j ≤ 12 ∧ 0 ≤ tl j ∧ tl j ≤ 200
theorem run_le {rel len tl : Nat → Int} (hd : dOK rel len tl) : ∀ (o : List Nat) (R : Nat) (t L c : Int), R < 64 → isOrd R o → t ≤ c → 200 ≤ c → L ≤ c + 12 * o.length + 200 → run rel len tl t L o ≤ c + 12 * o.length + 200
  | [], R, t, L, c, hR, h, h1, h2, h3 => h3
  | j :: o, R, t, L, c, hR, h, h1, h2, h3 => by
    obtain ⟨g1, g2⟩ := h
    have hj := bit_lt hR g1
    obtain ⟨a1, a2, a3, a4, a5, a6⟩ := hd j hj
    have e : nx rel len t j ≤ c + 12 := by unfold nx; omega
    rw [List.length_cons] at h3 ⊢
    have := run_le hd o _ (nx rel len t j) (max L (nx rel len t j + tl j)) (c + 12) (sd_lt _ hR) g2 e (by omega) (by omega)
    show run rel len tl (nx rel len t j) (max L (nx rel len t j + tl j)) o ≤ _
    omega
/-- the least length over the orders of R behind U, or 100000 when there is none -/
def wMin (rel len tl : Nat → Int) (a b : Int) (R U : Nat) (t L z : Int) : Prop :=
  (∀ o, isOrd R o → okO a b U o → z ≤ run rel len tl t L o) ∧ (z = 100000 ∨ ∃ o, isOrd R o ∧ okO a b U o ∧ run rel len tl t L o = z)
theorem wMin_one {rel len tl : Nat → Int} {a b : Int} {R U : Nat} {t L z z' : Int} (hb : ∀ o, isOrd R o → run rel len tl t L o ≤ 100000) (h : wMin rel len tl a b R U t L z) (h' : wMin rel len tl a b R U t L z') : z = z' := by
  have key : ∀ {x y : Int}, wMin rel len tl a b R U t L x → wMin rel len tl a b R U t L y → x ≤ y := by
    intro x y hx hy
    rcases hy.2 with e | ⟨o, h1, h2, h3⟩
    · rcases hx.2 with e2 | ⟨o, h1, h2, h3⟩
      · omega
      · have := hb o h1
        omega
    · have := hx.1 o h1 h2
      omega
  have h1 := key h h'
  have h2 := key h' h
  omega
theorem run_100000 {rel len tl : Nat → Int} (hd : dOK rel len tl) {R : Nat} (hR : R < 64) {t L : Int} (ht : t ≤ 10000) (hL : L ≤ 10000) (o : List Nat) (ho : isOrd R o) : run rel len tl t L o < 100000 := by
  have h1 := isOrd_len o R hR ho
  have h2 := cnt_le R
  have := run_le hd o R t L 10000 hR ho ht (by omega) (by omega)
  omega
/-- sums: one place changed; bounds -/
theorem si_one {f f' : Nat → Int} {n j : Nat} (hj : j < n) (h : ∀ k, k < n → k ≠ j → f' k = f k) : fb_si f' n = fb_si f n - f j + f' j := by
  have e : fb_si f' n = fb_si (fun k => if k = j then f' j else f k) n := fb_si_cong fun k hk => by
    by_cases q : k = j
    · subst q; simp
    · simp [q, h k hk q]
  rw [e, fb_si_upd f (f' j) hj]
theorem si_le {f g : Nat → Int} : ∀ {n : Nat}, (∀ k, k < n → f k ≤ g k) → fb_si f n ≤ fb_si g n
  | 0, _ => Int.le_refl _
  | n + 1, h => by
    have h1 := si_le (n := n) (f := f) (g := g) (fun k hk => h k (by omega))
    have h2 := h n (by omega)
    rw [fb_si_succ, fb_si_succ]
    omega
theorem si_nn {f : Nat → Int} : ∀ {n : Nat}, (∀ k, k < n → 0 ≤ f k) → 0 ≤ fb_si f n
  | 0, _ => Int.le_refl _
  | n + 1, h => by
    have h1 := si_nn (n := n) (f := f) (fun k hk => h k (by omega))
    have h2 := h n (by omega)
    rw [fb_si_succ]
    omega
theorem si_zero {f : Nat → Int} {n : Nat} (h : ∀ k, k < n → f k = 0) : fb_si f n = 0 := by
  have h1 := si_nn (f := f) (n := n) (fun k hk => by rw [h k hk]; exact Int.le_refl _)
  have h2 := si_le (f := f) (g := fun _ => 0) (n := n) (fun k hk => by rw [h k hk]; exact Int.le_refl _)
  have h3 : ∀ m, fb_si (fun _ => (0 : Int)) m = 0 := by
    intro m
    induction m with
    | zero => rfl
    | succ m ih => rw [fb_si_succ, ih]; rfl
  rw [h3] at h2
  omega
/-- an array with one place changed -/
def updZ (a : Nat → Int) (k : Nat) (v : Int) : Nat → Int := fun j => if j = k then v else a j
theorem updZ_s (a : Nat → Int) (k : Nat) (v : Int) : updZ a k v k = v := if_pos rfl
theorem updZ_n {a : Nat → Int} {k j : Nat} {v : Int} (h : j ≠ k) : updZ a k v j = a j := if_neg h
end
section
/-! plans with interruptions: the law of the greatest tail first -/
/-- B is no less than head + lengths + tail of any part T of the set M, nothing begun before time a0 -/
def hbd (rel len tl : Nat → Int) (a0 : Int) (M : Nat) (B : Int) : Prop := ∀ (T : Nat → Bool) (a q : Int), (∃ j, j < 6 ∧ T j = true) → (∀ j, j < 6 → T j = true → M.testBit j = true ∧ a ≤ max (rel j) a0 ∧ q ≤ tl j) → a + fb_si (fun j => if T j = true then len j else 0) 6 + q ≤ B
/-- the least length of a plan with interruptions -/
def jpsIs (rel len tl : Nat → Int) (M : Nat) (a0 z : Int) : Prop := 0 ≤ z ∧ hbd rel len tl a0 M z ∧ ∀ B, 0 ≤ B → hbd rel len tl a0 M B → z ≤ B
theorem jpsIs_one {rel len tl : Nat → Int} {M : Nat} {a0 z z' : Int} (h : jpsIs rel len tl M a0 z) (h' : jpsIs rel len tl M a0 z') : z = z' := by
  have h1 := h.2.2 z' h'.1 h'.2.1
  have h2 := h'.2.2 z h.1 h.2.1
  omega
/-- no order is shorter -/
theorem run_hbd {rel len tl : Nat → Int} (hlen : ∀ j, j < 6 → 0 ≤ len j) : ∀ (o : List Nat) (M : Nat) (t L : Int), M < 64 → isOrd M o → ∀ (T : Nat → Bool) (a q : Int), (∃ j, j < 6 ∧ T j = true ∧ M.testBit j = true) → (∀ j, j < 6 → T j = true → M.testBit j = true → a ≤ max (rel j) t ∧ q ≤ tl j) → a + fb_si (fun j => if T j = true ∧ M.testBit j = true then len j else 0) 6 + q ≤ run rel len tl t L o
  | [], M, t, L, hM, h, T, a, q, hex, _ => by
    obtain ⟨j, -, -, h3⟩ := hex
    have h : M = 0 := h
    rw [h] at h3
    simp at h3
  | i :: o, M, t, L, hM, h, T, a, q, hex, hall => by
    obtain ⟨g1, g2⟩ := h
    have hi := bit_lt hM g1
    have hM' := sd_lt (2 ^ i) hM
    have hge := run_ge rel len tl o (nx rel len t i) (max L (nx rel len t i + tl i))
    show _ ≤ run rel len tl (nx rel len t i) (max L (nx rel len t i + tl i)) o
    have hoff : ∀ k, k < 6 → k ≠ i → (if T k = true ∧ (sd M (2 ^ i)).testBit k = true then len k else 0) = (if T k = true ∧ M.testBit k = true then len k else 0) := by
      intro k _ hk
      have e : ¬ i = k := fun z => hk z.symm
      rw [sd_one]
      simp [e]
    have hsum := si_one (f := fun k => if T k = true ∧ M.testBit k = true then len k else 0) (f' := fun k => if T k = true ∧ (sd M (2 ^ i)).testBit k = true then len k else 0) hi hoff
    have hself : (if T i = true ∧ (sd M (2 ^ i)).testBit i = true then len i else 0) = 0 := by
      rw [sd_one]; simp
    simp only [hself] at hsum
    by_cases hT : T i = true
    · obtain ⟨a1, a2⟩ := hall i hi hT g1
      have hone : (if T i = true ∧ M.testBit i = true then len i else 0) = len i := if_pos ⟨hT, g1⟩
      rw [hone] at hsum
      have hnx : a + len i ≤ nx rel len t i := by unfold nx; omega
      by_cases hrest : ∃ j, j < 6 ∧ T j = true ∧ (sd M (2 ^ i)).testBit j = true
      · have ih := run_hbd (rel := rel) (tl := tl) hlen o (sd M (2 ^ i)) (nx rel len t i) (max L (nx rel len t i + tl i)) hM' g2 T (a + len i) q hrest (fun j hj hTj hMj => by
          have hMj2 : M.testBit j = true := by
            rw [sd_one] at hMj
            simp at hMj
            exact hMj.1
          exact ⟨by omega, (hall j hj hTj hMj2).2⟩)
        omega
      · have hz : fb_si (fun k => if T k = true ∧ (sd M (2 ^ i)).testBit k = true then len k else 0) 6 = 0 := si_zero fun k hk => if_neg fun z => hrest ⟨k, hk, z⟩
        omega
    · have hone : (if T i = true ∧ M.testBit i = true then len i else 0) = 0 := if_neg fun z => hT z.1
      rw [hone] at hsum
      have hrest : ∃ j, j < 6 ∧ T j = true ∧ (sd M (2 ^ i)).testBit j = true := by
        obtain ⟨j, h1, h2, h3⟩ := hex
        refine ⟨j, h1, h2, ?_⟩
        have e : ¬ i = j := fun z => hT (z ▸ h2)
        rw [sd_one]
        simp [h3, e]
      have hneg := hlen i hi
      · have ih := run_hbd (rel := rel) (tl := tl) hlen o (sd M (2 ^ i)) (nx rel len t i) (max L (nx rel len t i + tl i)) hM' g2 T a q hrest (fun j hj hTj hMj => by
          have hMj2 : M.testBit j = true := by
            rw [sd_one] at hMj
            simp at hMj
            exact hMj.1
          have h4 := hall j hj hTj hMj2
          have h5 : t ≤ nx rel len t i := by unfold nx; omega
          exact ⟨by omega, h4.2⟩)
        omega
theorem jps_run {rel len tl : Nat → Int} (hlen : ∀ j, j < 6 → 0 ≤ len j) {M : Nat} {a0 z t L : Int} {o : List Nat} (hM : M < 64) (h : jpsIs rel len tl M a0 z) (ho : isOrd M o) (ht : a0 ≤ t) (hL : 0 ≤ L) : z ≤ run rel len tl t L o := by
  refine h.2.2 _ (Int.le_trans hL (run_ge rel len tl o t L)) fun T a q hex hall => ?_
  have h1 := run_hbd (rel := rel) (len := len) (tl := tl) hlen o M t L hM ho T a q (by
    obtain ⟨j, h1, h2⟩ := hex
    exact ⟨j, h1, h2, (hall j h1 h2).1⟩) (fun j hj hT _ => by
      have := hall j hj hT
      exact ⟨by omega, this.2.2⟩)
  have h2 : fb_si (fun j => if T j = true then len j else 0) 6 = fb_si (fun j => if T j = true ∧ M.testBit j = true then len j else 0) 6 := fb_si_cong fun k hk => by
    by_cases hT : T k = true
    · simp [hT, (hall k hk hT).1]
    · simp [hT]
  omega
theorem si_lt {f g : Nat → Int} {n i : Nat} (hi : i < n) (h : ∀ k, k < n → f k ≤ g k) (h1 : f i + 1 ≤ g i) : fb_si f n + 1 ≤ fb_si g n := by
  have e1 := si_le (f := f) (g := fun k => if k = i then f i else g k) (n := n) (fun k hk => by
    by_cases q : k = i
    · subst q; simp
    · simp [q, h k hk])
  have e2 := fb_si_upd g (f i) hi
  omega
/-- what holds while a plan with interruptions is made: time t, length L, lf left of each job -/
def jInv (rel len tl : Nat → Int) (M : Nat) (a0 t L : Int) (lf : Nat → Int) : Prop :=
  (∀ j, j < 6 → 0 ≤ lf j ∧ lf j ≤ (if M.testBit j = true then len j else 0)) ∧ a0 ≤ t ∧ 0 ≤ L ∧
  (∀ q : Int, ∃ a : Int, (∀ j, j < 6 → 0 < lf j → q ≤ tl j → a ≤ max (rel j) a0) ∧ t ≤ a + fb_si (fun j => if M.testBit j = true ∧ q ≤ tl j ∧ a ≤ max (rel j) a0 then len j - lf j else 0) 6) ∧
  (∀ B, 0 ≤ B → hbd rel len tl a0 M B → L ≤ B) ∧
  (∀ (T : Nat → Bool) (a q : Int), (∃ j, j < 6 ∧ T j = true) → (∀ j, j < 6 → T j = true → M.testBit j = true ∧ a ≤ max (rel j) a0 ∧ q ≤ tl j) → a + fb_si (fun j => if T j = true then len j else 0) 6 + q ≤ L ∨ ((∃ j, j < 6 ∧ T j = true ∧ 0 < lf j) ∧ fb_si (fun j => if T j = true then len j - lf j else 0) 6 ≤ max 0 (t - a)))
/-- how many rounds are still wanted at most -/
def jMu (rel lf : Nat → Int) (t : Int) : Int := fb_si (fun j => if 0 < lf j then (if t < rel j then 2 else 1) else 0) 6
theorem jMu_nn (rel lf : Nat → Int) (t : Int) : 0 ≤ jMu rel lf t := si_nn fun k _ => by
  split
  · split <;> omega
  · omega
theorem jMu_12 (rel lf : Nat → Int) (t : Int) : jMu rel lf t ≤ 12 := by
  have h := si_le (f := fun j => if 0 < lf j then (if t < rel j then 2 else 1) else 0) (g := fun _ => 2) (n := 6) (fun k _ => by
    split
    · split <;> omega
    · omega)
  have e : fb_si (fun _ => (2 : Int)) 6 = 12 := by decide
  unfold jMu
  omega
theorem jMu_0 {rel lf : Nat → Int} {t : Int} (h : jMu rel lf t ≤ 0) : ∀ j, j < 6 → ¬ 0 < lf j := by
  intro j hj hl
  have h1 := si_lt (f := fun _ => 0) (g := fun j => if 0 < lf j then (if t < rel j then 2 else 1) else 0) (n := 6) (i := j) hj (fun k _ => by
    split
    · split <;> omega
    · omega) (by
    simp only [if_pos hl]
    split <;> omega)
  have e : fb_si (fun _ => (0 : Int)) 6 = 0 := by decide
  unfold jMu at h
  omega
theorem j_init {rel len tl : Nat → Int} {M : Nat} {a0 : Int} {lf : Nat → Int} (h1 : ∀ j, j < 6 → M.testBit j = true → 1 ≤ len j) (hl : ∀ j, j < 6 → lf j = if M.testBit j = true then len j else 0) : jInv rel len tl M a0 a0 0 lf := by
  refine ⟨fun j hj => ?_, Int.le_refl _, Int.le_refl _, fun q => ⟨a0, fun j hj _ _ => by omega, ?_⟩, fun B hB _ => hB, fun T a q hex hall => Or.inr ⟨?_, ?_⟩⟩
  · rw [hl j hj]
    refine ⟨?_, Int.le_refl _⟩
    split
    · have := h1 j hj (by assumption)
      omega
    · omega
  · have := si_nn (f := fun j => if M.testBit j = true ∧ q ≤ tl j ∧ a0 ≤ max (rel j) a0 then len j - lf j else 0) (n := 6) (fun k hk => by
      split
      · next hc => rw [hl k hk, if_pos hc.1]; omega
      · omega)
    omega
  · obtain ⟨j, hj, hT⟩ := hex
    have := hall j hj hT
    refine ⟨j, hj, hT, ?_⟩
    rw [hl j hj, if_pos this.1]
    have := h1 j hj this.1
    omega
  · have : fb_si (fun j => if T j = true then len j - lf j else 0) 6 = 0 := si_zero fun k hk => by
      by_cases hT : T k = true
      · rw [if_pos hT, hl k hk, if_pos (hall k hk hT).1]; omega
      · rw [if_neg hT]
    omega
theorem j_bit {rel len tl : Nat → Int} {M : Nat} {a0 t L : Int} {lf : Nat → Int} (H : jInv rel len tl M a0 t L lf) {j : Nat} (hj : j < 6) (h : 0 < lf j) : M.testBit j = true := by
  have h1 := H.1 j hj
  by_cases q : M.testBit j = true
  · exact q
  · rw [if_neg q] at h1
    omega
/-- a round that works at job j for w -/
theorem j_work {rel len tl : Nat → Int} {M : Nat} {a0 t L w : Int} {lf : Nat → Int} (H : jInv rel len tl M a0 t L lf) {j : Nat} (hj : j < 6) (hlf : 0 < lf j) (hrel : rel j ≤ t) (hmax : ∀ i, i < 6 → 0 < lf i → rel i ≤ t → tl i ≤ tl j) (hw : 0 < w) (hwl : w ≤ lf j) (hnext : ∀ i, i < 6 → 0 < lf i → t < rel i → t + w ≤ rel i) :
    jInv rel len tl M a0 (t + w) (if lf j - w = 0 ∧ L < t + w + tl j then t + w + tl j else L) (updZ lf j (lf j - w)) := by
  have hMj := j_bit H hj hlf
  obtain ⟨hb, h0, hL, hU, hB, hT⟩ := H
  have e1 : updZ lf j (lf j - w) j = lf j - w := updZ_s _ _ _
  have e2 : ∀ k, k ≠ j → updZ lf j (lf j - w) k = lf k := fun k hk => updZ_n hk
  generalize updZ lf j (lf j - w) = lf' at e1 e2
  have hle : ∀ k, lf' k ≤ lf k := by
    intro k
    by_cases q : k = j
    · subst q; omega
    · rw [e2 k q]; exact Int.le_refl _
  have hb' : ∀ k, k < 6 → 0 ≤ lf' k ∧ lf' k ≤ (if M.testBit k = true then len k else 0) := by
    intro k hk
    have h1 := hb k hk
    have h2 := hle k
    refine ⟨?_, by omega⟩
    by_cases q : k = j
    · subst q; omega
    · rw [e2 k q]; exact h1.1
  have key : ∀ (q a : Int), q ≤ tl j → a ≤ max (rel j) a0 → t ≤ a + fb_si (fun k => if M.testBit k = true ∧ q ≤ tl k ∧ a ≤ max (rel k) a0 then len k - lf k else 0) 6 → t + w ≤ a + fb_si (fun k => if M.testBit k = true ∧ q ≤ tl k ∧ a ≤ max (rel k) a0 then len k - lf' k else 0) 6 := by
    intro q a hq ha hs
    have h1 := si_one (f := fun k => if M.testBit k = true ∧ q ≤ tl k ∧ a ≤ max (rel k) a0 then len k - lf k else 0) (f' := fun k => if M.testBit k = true ∧ q ≤ tl k ∧ a ≤ max (rel k) a0 then len k - lf' k else 0) (n := 6) hj (fun k _ hk => by simp only [e2 k hk])
    have c : M.testBit j = true ∧ q ≤ tl j ∧ a ≤ max (rel j) a0 := ⟨hMj, hq, ha⟩
    simp only [if_pos c, e1] at h1
    omega
  refine ⟨hb', by omega, by split <;> omega, fun q => ?_, fun B hB0 hh => ?_, fun T a q hex hall => ?_⟩
  · by_cases hq : q ≤ tl j
    · obtain ⟨a, g1, g2⟩ := hU q
      exact ⟨a, fun k hk hlk hqk => g1 k hk (by have := hle k; omega) hqk, key q a hq (g1 j hj hlf hq) g2⟩
    · refine ⟨t + w, fun k hk hlk hqk => ?_, ?_⟩
      · have h1 : 0 < lf k := by have := hle k; omega
        by_cases hr : rel k ≤ t
        · have := hmax k hk h1 hr
          omega
        · have := hnext k hk h1 (by omega)
          omega
      · have := si_nn (f := fun k => if M.testBit k = true ∧ q ≤ tl k ∧ t + w ≤ max (rel k) a0 then len k - lf' k else 0) (n := 6) (fun k hk => by
          split
          · next hc =>
            have := hb' k hk
            rw [if_pos hc.1] at this
            omega
          · omega)
        omega
  · have h1 := hB B hB0 hh
    by_cases hc : lf j - w = 0 ∧ L < t + w + tl j
    · rw [if_pos hc]
      obtain ⟨a, g1, g2⟩ := hU (tl j)
      have ha := g1 j hj hlf (Int.le_refl _)
      have g3 := key (tl j) a (Int.le_refl _) ha g2
      have g4 := hh (fun k => M.testBit k && decide (tl j ≤ tl k) && decide (a ≤ max (rel k) a0)) a (tl j) ⟨j, hj, by simp only [hMj, Int.le_refl, ha, decide_true, Bool.and_true]⟩ (fun k hk hTk => by
        simp only [Bool.and_eq_true, decide_eq_true_eq] at hTk
        exact ⟨hTk.1.1, hTk.2, hTk.1.2⟩)
      have g5 := si_le (f := fun k => if M.testBit k = true ∧ tl j ≤ tl k ∧ a ≤ max (rel k) a0 then len k - lf' k else 0) (g := fun k => if (M.testBit k && decide (tl j ≤ tl k) && decide (a ≤ max (rel k) a0)) = true then len k else 0) (n := 6) (fun k hk => by
        have := hb' k hk
        by_cases hk2 : M.testBit k = true ∧ tl j ≤ tl k ∧ a ≤ max (rel k) a0
        · have hk3 : (M.testBit k && decide (tl j ≤ tl k) && decide (a ≤ max (rel k) a0)) = true := by
            simp only [Bool.and_eq_true, decide_eq_true_eq]
            exact ⟨⟨hk2.1, hk2.2.1⟩, hk2.2.2⟩
          simp only [if_pos hk2, if_pos hk3]
          omega
        · have hk3 : ¬ (M.testBit k && decide (tl j ≤ tl k) && decide (a ≤ max (rel k) a0)) = true := by
            simp only [Bool.and_eq_true, decide_eq_true_eq]
            exact fun z => hk2 ⟨z.1.1, z.1.2, z.2⟩
          simp only [if_neg hk2, if_neg hk3]
          exact Int.le_refl _)
      omega
    · rw [if_neg hc]
      exact h1
  · have hLL : L ≤ (if lf j - w = 0 ∧ L < t + w + tl j then t + w + tl j else L) := by split <;> omega
    rcases hT T a q hex hall with h | ⟨⟨i, hi, hTi, hli⟩, hs⟩
    · exact Or.inl (by omega)
    · by_cases hTj : T j = true
      · obtain ⟨-, c1, c2⟩ := hall j hj hTj
        have h1 := si_one (f := fun k => if T k = true then len k - lf k else 0) (f' := fun k => if T k = true then len k - lf' k else 0) (n := 6) hj (fun k _ hk => by simp only [e2 k hk])
        simp only [if_pos hTj, e1] at h1
        by_cases hrem : ∃ k, k < 6 ∧ T k = true ∧ 0 < lf' k
        · exact Or.inr ⟨hrem, by omega⟩
        · have h2 : fb_si (fun k => if T k = true then len k - lf' k else 0) 6 = fb_si (fun k => if T k = true then len k else 0) 6 := fb_si_cong fun k hk => by
            by_cases hTk : T k = true
            · have h3 := (hb' k hk).1
              have h4 : ¬ 0 < lf' k := fun z => hrem ⟨k, hk, hTk, z⟩
              simp only [if_pos hTk]
              omega
            · simp only [if_neg hTk]
          have h5 : ¬ 0 < lf' j := fun z => hrem ⟨j, hj, hTj, z⟩
          have h6 : lf j - w = 0 := by omega
          refine Or.inl ?_
          by_cases hc : L < t + w + tl j
          · rw [if_pos ⟨h6, hc⟩]
            omega
          · rw [if_neg fun z => hc z.2]
            omega
      · have h2 : fb_si (fun k => if T k = true then len k - lf' k else 0) 6 = fb_si (fun k => if T k = true then len k - lf k else 0) 6 := fb_si_cong fun k hk => by
          by_cases q : k = j
          · subst q
            simp only [if_neg hTj]
          · simp only [e2 k q]
        have hij : i ≠ j := fun z => hTj (z ▸ hTi)
        exact Or.inr ⟨⟨i, hi, hTi, by rw [e2 i hij]; exact hli⟩, by omega⟩
theorem j_work_mu {rel lf : Nat → Int} {t w : Int} {j : Nat} (hj : j < 6) (hlf : 0 < lf j) (hrel : rel j ≤ t) (hw : 0 < w) (hwl : w ≤ lf j) (h : w = lf j ∨ ∃ i, i < 6 ∧ 0 < lf i ∧ t < rel i ∧ rel i = t + w) : jMu rel (updZ lf j (lf j - w)) (t + w) + 1 ≤ jMu rel lf t := by
  have e1 : updZ lf j (lf j - w) j = lf j - w := updZ_s _ _ _
  have e2 : ∀ k, k ≠ j → updZ lf j (lf j - w) k = lf k := fun k hk => updZ_n hk
  generalize updZ lf j (lf j - w) = lf' at e1 e2
  have hpt : ∀ k, k < 6 → (if 0 < lf' k then (if t + w < rel k then (2 : Int) else 1) else 0) ≤ (if 0 < lf k then (if t < rel k then 2 else 1) else 0) := by
    intro k _
    by_cases q : k = j
    · subst q
      rw [e1, if_pos hlf, if_neg (show ¬ t < rel k by omega)]
      split
      · rw [if_neg (by omega)]; omega
      · omega
    · rw [e2 k q]
      split
      · split
        · rw [if_pos (by omega)]; omega
        · split <;> omega
      · omega
  rcases h with h | ⟨i, hi, h1, h2, h3⟩
  · refine si_lt hj hpt ?_
    rw [e1, if_pos hlf, if_neg (show ¬ t < rel j by omega), if_neg (by omega)]
    omega
  · refine si_lt hi hpt ?_
    have hij : i ≠ j := fun z => by subst z; omega
    rw [e2 i hij, if_pos h1, if_pos h1, if_pos h2, if_neg (by omega)]
    omega
/-- a round that waits for the next release -/
theorem j_wait {rel len tl : Nat → Int} {M : Nat} {a0 t L n : Int} {lf : Nat → Int} (H : jInv rel len tl M a0 t L lf) (hn : t < n) (hall : ∀ i, i < 6 → 0 < lf i → n ≤ rel i) : jInv rel len tl M a0 n L lf := by
  obtain ⟨hb, h0, hL, hU, hB, hT⟩ := H
  refine ⟨hb, by omega, hL, fun q => ⟨n, fun k hk hl _ => by have := hall k hk hl; omega, ?_⟩, hB, fun T a q hex hal => ?_⟩
  · have := si_nn (f := fun k => if M.testBit k = true ∧ q ≤ tl k ∧ n ≤ max (rel k) a0 then len k - lf k else 0) (n := 6) (fun k hk => by
      split
      · next hc =>
        have := hb k hk
        rw [if_pos hc.1] at this
        omega
      · omega)
    omega
  · rcases hT T a q hex hal with h | ⟨h1, h2⟩
    · exact Or.inl h
    · exact Or.inr ⟨h1, by omega⟩
theorem j_wait_mu {rel lf : Nat → Int} {t n : Int} {i : Nat} (hi : i < 6) (h1 : 0 < lf i) (h2 : t < rel i) (h3 : rel i = n) (hn : t < n) : jMu rel lf n + 1 ≤ jMu rel lf t := by
  refine si_lt hi (fun k _ => ?_) ?_
  · split
    · split
      · rw [if_pos (by omega)]; omega
      · split <;> omega
    · omega
  · rw [if_pos h1, if_pos h1, if_pos h2, if_neg (by omega)]
    omega
theorem j_end {rel len tl : Nat → Int} {M : Nat} {a0 t L : Int} {lf : Nat → Int} (H : jInv rel len tl M a0 t L lf) (h : ∀ j, j < 6 → ¬ 0 < lf j) : jpsIs rel len tl M a0 L := by
  obtain ⟨hb, h0, hL, hU, hB, hT⟩ := H
  refine ⟨hL, fun T a q hex hall => ?_, hB⟩
  rcases hT T a q hex hall with h1 | ⟨⟨j, hj, -, hl⟩, -⟩
  · exact h1
  · exact absurd hl (h j hj)
end
section
/-! the search over beginnings of orders, bounded: what its rounds come to -/
/-- job j may stand next behind the jobs U -/
def cand (P U : Nat) (a b : Int) (j : Nat) : Prop := P.testBit j = true ∧ U.testBit j = false ∧ ¬ (0 ≤ a ∧ (j : Int) = b ∧ U.testBit a.toNat = false)
/-- z is the least such job from c on, or -1 -/
def njIs (P U : Nat) (a b c z : Int) : Prop := (z = -1 ∧ ∀ j : Nat, j < 6 → c ≤ (j : Int) → ¬ cand P U a b j) ∨ ∃ j : Nat, z = (j : Int) ∧ j < 6 ∧ c ≤ (j : Int) ∧ cand P U a b j ∧ ∀ i : Nat, c ≤ (i : Int) → i < j → ¬ cand P U a b i
/-- within n rounds the search comes to its end, and then Post holds -/
def sWp (rel len tl : Nat → Int) (P : Nat) (a b : Int) (fx : Nat) (Post : Int → (Nat → Int) → (Nat → Int) → (Nat → Int) → Prop) : Nat → Int → Nat → Int → (Nat → Int) → (Nat → Int) → (Nat → Int) → Prop
  | 0, lv, _, bs, tr, dn, ln => lv < fx ∧ Post bs tr dn ln
  | n + 1, lv, U, bs, tr, dn, ln => (lv < fx ∧ Post bs tr dn ln) ∨
    ∃ d : Nat, lv = (d : Int) ∧ fx ≤ d ∧ d ≤ 5 ∧ U < 64 ∧ (-1 ≤ tr d ∧ tr d ≤ 5) ∧ (0 ≤ dn d ∧ dn d ≤ 1300) ∧ (0 ≤ ln d ∧ ln d ≤ 2000) ∧ (0 ≤ bs ∧ bs ≤ 100000) ∧ (fx < d → 0 ≤ tr (d - 1) ∧ tr (d - 1) ≤ 5) ∧
      (njIs P U a b (tr d + 1) (-1) → sWp rel len tl P a b fx Post n ((d : Int) - 1) (if fx < d then sd U (2 ^ (tr (d - 1)).toNat) else U) bs tr dn ln) ∧
      (∀ j : Nat, j < 6 → njIs P U a b (tr d + 1) (j : Int) → P.testBit j = true ∧ U.testBit j = false ∧ ∀ z : Int, jpsIs rel len tl (sd (sd P U) (2 ^ j)) (nx rel len (dn d) j) z →
        (max z (max (ln d) (nx rel len (dn d) j + tl j)) < bs → sd (sd P U) (2 ^ j) = 0 → sWp rel len tl P a b fx Post n (d : Int) U (max z (max (ln d) (nx rel len (dn d) j + tl j))) (updZ tr d (j : Int)) (updZ dn (d + 1) (nx rel len (dn d) j)) (updZ ln (d + 1) (max (ln d) (nx rel len (dn d) j + tl j)))) ∧
        (max z (max (ln d) (nx rel len (dn d) j + tl j)) < bs → sd (sd P U) (2 ^ j) ≠ 0 → d ≤ 4 ∧ sWp rel len tl P a b fx Post n ((d : Int) + 1) (U ||| 2 ^ j) bs (updZ (updZ tr d (j : Int)) (d + 1) (-1)) (updZ dn (d + 1) (nx rel len (dn d) j)) (updZ ln (d + 1) (max (ln d) (nx rel len (dn d) j + tl j)))) ∧
        (¬ max z (max (ln d) (nx rel len (dn d) j + tl j)) < bs → sWp rel len tl P a b fx Post n (d : Int) U bs (updZ tr d (j : Int)) (updZ dn (d + 1) (nx rel len (dn d) j)) (updZ ln (d + 1) (max (ln d) (nx rel len (dn d) j + tl j)))))
/-- rounds that a beginning with m jobs left may take -/
def tc : Nat → Nat
  | 0 => 0
  | m + 1 => 1 + (m + 1) * (1 + tc m)
/-- jobs of R from c on -/
def rc (R c : Nat) : Nat := fb_ct (fun i => decide (c ≤ i) && R.testBit i) 6
theorem rc_0 (R : Nat) : rc R 0 = cnt R := fb_ct_cong fun k _ => by simp
theorem rc_lt {R c j : Nat} (hj : j < 6) (hc : c ≤ j) (h : R.testBit j = true) : rc R (j + 1) + 1 ≤ rc R c := by
  have h1 : fb_ct (fun k => if k = j then false else (decide (c ≤ k) && R.testBit k)) 6 + 1 = fb_ct (fun i => decide (c ≤ i) && R.testBit i) 6 := by
    have e := fb_ct_upd (fun i => decide (c ≤ i) && R.testBit i) false (i := j) (n := 6) hj
    have e1 : (if (decide (c ≤ j) && R.testBit j) = true then 1 else 0) = 1 := by simp [hc, h]
    have e2 : (if false = true then 1 else 0) = 0 := by simp
    rw [e1, e2] at e
    exact e
  have h2 : fb_ct (fun i => decide (j + 1 ≤ i) && R.testBit i) 6 ≤ fb_ct (fun k => if k = j then false else (decide (c ≤ k) && R.testBit k)) 6 := fb_ct_sub fun k _ hk => by
    simp only [Bool.and_eq_true, decide_eq_true_eq] at hk
    rw [if_neg (by omega)]
    simp only [Bool.and_eq_true, decide_eq_true_eq]
    exact ⟨by omega, hk.2⟩
  unfold rc
  omega
theorem jps_none {rel len tl : Nat → Int} {a0 z : Int} (h : jpsIs rel len tl 0 a0 z) : z = 0 := by
  have h1 := h.2.2 0 (Int.le_refl _) (fun T a q hex hall => by
    obtain ⟨j, hj, hT⟩ := hex
    have := (hall j hj hT).1
    simp at this)
  have := h.1
  omega
theorem ord_cand {P U : Nat} {a b : Int} {j : Nat} {o : List Nat} (h1 : isOrd (sd P U) (j :: o)) (h2 : okO a b U (j :: o)) : cand P U a b j := by
  have e := h1.1
  rw [sd_bit] at e
  simp only [Bool.and_eq_true, Bool.not_eq_true'] at e
  exact ⟨e.1, e.2, h2.1⟩
theorem s_node {rel len tl : Nat → Int} (hd : dOK rel len tl) {P : Nat} (hP : P < 64) (a b : Int) (fx : Nat) (Post : Int → (Nat → Int) → (Nat → Int) → (Nat → Int) → Prop) :
    ∀ (m q n d U : Nat) (bs : Int) (tr dn ln : Nat → Int) (c : Nat), cnt (sd P U) = m → 1 ≤ m → d + m = cnt P → (∀ i, U.testBit i = true → P.testBit i = true) → U < 64 → c ≤ 6 → tr d = (c : Int) - 1 → (0 ≤ dn d ∧ dn d ≤ 212 * d) → (0 ≤ ln d ∧ ln d ≤ 212 * d + 200) → (0 ≤ bs ∧ bs ≤ 100000) → fx ≤ d → (fx < d → 0 ≤ tr (d - 1) ∧ tr (d - 1) ≤ 5) → rc (sd P U) c ≤ q →
      (∀ (n' : Nat) (bs' : Int) (tr' dn' ln' : Nat → Int), n ≤ n' → (∀ k, k < d → tr' k = tr k) → (∀ k, k ≤ d → dn' k = dn k ∧ ln' k = ln k) → (0 ≤ bs' ∧ bs' ≤ bs) → (∀ o, isOrd (sd P U) o → okO a b U o → (∀ j o', o = j :: o' → c ≤ j) → bs' ≤ run rel len tl (dn d) (ln d) o) → (bs' = bs ∨ ∃ o, isOrd (sd P U) o ∧ okO a b U o ∧ run rel len tl (dn d) (ln d) o = bs') → sWp rel len tl P a b fx Post n' ((d : Int) - 1) (if fx < d then sd U (2 ^ (tr (d - 1)).toNat) else U) bs' tr' dn' ln') →
      ∀ N, n + 1 + q * (1 + tc (m - 1)) ≤ N → sWp rel len tl P a b fx Post N (d : Int) U bs tr dn ln := by
  intro m
  induction m with
  | zero => intro q n d U bs tr dn ln c _ h; exact absurd h (by omega)
  | succ m ihm =>
    intro q
    induction q with
    | zero =>
      intro n d U bs tr dn ln c hm _ hdm hUP hU hc htr hdn hln hbs hfx hpr hq K N hN
      obtain ⟨N', rfl⟩ : ∃ N', N = N' + 1 := ⟨N - 1, by omega⟩
      have h6 := cnt_le P
      refine Or.inr ⟨d, rfl, hfx, by omega, hU, by omega, by omega, by omega, by omega, hpr, fun hnj => ?_, fun j hj hnj => ?_⟩
      · refine K N' bs tr dn ln (by omega) (fun _ _ => rfl) (fun _ _ => ⟨rfl, rfl⟩) ⟨hbs.1, Int.le_refl _⟩ (fun o h1 h2 h3 => ?_) (Or.inl rfl)
        cases o with
        | nil =>
          have e : sd P U = 0 := h1
          rw [e] at hm
          have : cnt 0 = 0 := by decide
          omega
        | cons i o =>
          exfalso
          have hc1 := ord_cand h1 h2
          rcases hnj with ⟨-, hn⟩ | ⟨j, hz, -⟩
          · exact hn i (bit_lt hP hc1.1) (by have := h3 i o rfl; omega) hc1
          · omega
      · exfalso
        rcases hnj with ⟨hz, -⟩ | ⟨i, hz, hi, hci, hca, -⟩
        · omega
        · have e : i = j := by omega
          subst e
          have hb : (sd P U).testBit i = true := by rw [sd_bit, hca.1, hca.2.1]; rfl
          have := rc_lt (R := sd P U) (c := c) hi (by omega) hb
          omega
    | succ q ihq =>
      intro n d U bs tr dn ln c hm _ hdm hUP hU hc htr hdn hln hbs hfx hpr hq K N hN
      have hN : n + 1 + (q + 1) * (1 + tc m) ≤ N := hN
      rw [Nat.succ_mul] at hN
      obtain ⟨N', rfl⟩ : ∃ N', N = N' + 1 := ⟨N - 1, by omega⟩
      have h6 := cnt_le P
      refine Or.inr ⟨d, rfl, hfx, by omega, hU, by omega, by omega, by omega, by omega, hpr, fun hnj => ?_, fun j hj hnj => ?_⟩
      · refine K N' bs tr dn ln (by omega) (fun _ _ => rfl) (fun _ _ => ⟨rfl, rfl⟩) ⟨hbs.1, Int.le_refl _⟩ (fun o h1 h2 h3 => ?_) (Or.inl rfl)
        cases o with
        | nil =>
          have e : sd P U = 0 := h1
          rw [e] at hm
          have : cnt 0 = 0 := by decide
          omega
        | cons i o =>
          exfalso
          have hc1 := ord_cand h1 h2
          rcases hnj with ⟨-, hn⟩ | ⟨j, hz, -⟩
          · exact hn i (bit_lt hP hc1.1) (by have := h3 i o rfl; omega) hc1
          · omega
      · obtain ⟨hcj, hca, hlo⟩ : (c : Int) ≤ j ∧ cand P U a b j ∧ ∀ i : Nat, tr d + 1 ≤ (i : Int) → i < j → ¬ cand P U a b i := by
          rcases hnj with ⟨hz, -⟩ | ⟨i, hz, hi, hci, hca, hlo⟩
          · omega
          · have e : i = j := by omega
            subst e
            exact ⟨by omega, hca, hlo⟩
        have hbj : (sd P U).testBit j = true := by rw [sd_bit, hca.1, hca.2.1]; rfl
        refine ⟨hca.1, hca.2.1, fun z hz => ?_⟩
        have hrc := rc_lt (R := sd P U) (c := c) hj (by omega) hbj
        have hcr := cnt_one hj hbj
        obtain ⟨b1, b2, b3, b4, b5, b6⟩ := hd j hj
        have ht1 : 0 ≤ nx rel len (dn d) j ∧ nx rel len (dn d) j ≤ 212 * (d + 1) := by unfold nx; omega
        generalize et1 : nx rel len (dn d) j = t1 at hz ht1 ⊢
        have hL1 : 0 ≤ max (ln d) (t1 + tl j) ∧ max (ln d) (t1 + tl j) ≤ 212 * (d + 1) + 200 := by omega
        generalize eL1 : max (ln d) (t1 + tl j) = L1 at hL1 ⊢
        have hrun : ∀ o, run rel len tl (dn d) (ln d) (j :: o) = run rel len tl t1 L1 o := by
          intro o
          show run rel len tl (nx rel len (dn d) j) (max (ln d) (nx rel len (dn d) j + tl j)) o = _
          rw [et1, eL1]
        have hsd : sd (sd P U) (2 ^ j) = sd P (U ||| 2 ^ j) := sd_sd_one P U j
        have hlen : ∀ i, i < 6 → 0 ≤ len i := fun i hi => (hd i hi).2.2.1
        have hR64 : sd (sd P U) (2 ^ j) < 64 := sd_lt _ (sd_lt _ hP)
        have cont : ∀ (N'' : Nat) (bs1 : Int) (tr1 dn1 ln1 : Nat → Int), n + 1 + q * (1 + tc m) ≤ N'' → (∀ k, k < d → tr1 k = tr k) → tr1 d = (j : Int) → (∀ k, k ≤ d → dn1 k = dn k ∧ ln1 k = ln k) → (0 ≤ bs1 ∧ bs1 ≤ bs) → (∀ o, isOrd (sd (sd P U) (2 ^ j)) o → okO a b (U ||| 2 ^ j) o → bs1 ≤ run rel len tl t1 L1 o) → (bs1 = bs ∨ ∃ o, isOrd (sd P U) o ∧ okO a b U o ∧ run rel len tl (dn d) (ln d) o = bs1) → sWp rel len tl P a b fx Post N'' (d : Int) U bs1 tr1 dn1 ln1 := by
          intro N'' bs1 tr1 dn1 ln1 hN'' g1 g2 g3 g4 g5 g6
          have gd := g3 d (Nat.le_refl _)
          refine ihq n d U bs1 tr1 dn1 ln1 (j + 1) hm (by omega) hdm hUP hU (by omega) (by rw [g2]; omega) (by rw [gd.1]; exact hdn) (by rw [gd.2]; exact hln) (by omega) hfx (fun h => by rw [g1 (d - 1) (by omega)]; exact hpr h) (by omega) (fun n' bs' tr' dn' ln' k0 k1 k2 k3 k4 k5 => ?_) N'' hN''
          have e1 : (if fx < d then sd U (2 ^ (tr1 (d - 1)).toNat) else U) = (if fx < d then sd U (2 ^ (tr (d - 1)).toNat) else U) := by
            by_cases h : fx < d
            · rw [if_pos h, if_pos h, g1 (d - 1) (by omega)]
            · rw [if_neg h, if_neg h]
          rw [e1]
          refine K n' bs' tr' dn' ln' k0 (fun k hk => by rw [k1 k hk, g1 k hk]) (fun k hk => by rw [(k2 k hk).1, (k2 k hk).2]; exact g3 k hk) ⟨k3.1, by omega⟩ (fun o h1 h2 h3 => ?_) ?_
          · cases o with
            | nil =>
              have e : sd P U = 0 := h1
              rw [e] at hm
              have : cnt 0 = 0 := by decide
              omega
            | cons i o =>
              have hc1 := ord_cand h1 h2
              have hci := h3 i o rfl
              rcases Nat.lt_trichotomy i j with hij | hij | hij
              · exact absurd hc1 (hlo i (by omega) hij)
              · subst hij
                rw [hrun]
                have := g5 o h1.2 h2.2
                omega
              · have := k4 (i :: o) h1 h2 (fun j' o' e => by
                  have : i = j' := (List.cons.inj e).1
                  omega)
                rw [gd.1, gd.2] at this
                exact this
          · rcases k5 with e | ⟨o, o1, o2, o3⟩
            · rcases g6 with e2 | ⟨o, o1, o2, o3⟩
              · exact Or.inl (by omega)
              · exact Or.inr ⟨o, o1, o2, by omega⟩
            · rw [gd.1, gd.2] at o3
              exact Or.inr ⟨o, o1, o2, o3⟩
        have u1 : ∀ k, k < d → updZ tr d (j : Int) k = tr k := fun k hk => updZ_n (by omega)
        have u2 : ∀ k, k ≤ d → updZ dn (d + 1) t1 k = dn k ∧ updZ ln (d + 1) L1 k = ln k := fun k hk => ⟨updZ_n (by omega), updZ_n (by omega)⟩
        refine ⟨fun hlt hr0 => ?_, fun hlt hr0 => ?_, fun hge => ?_⟩
        · have hz0 : z = 0 := jps_none (by rw [hr0] at hz; exact hz)
          have ebd : max z L1 = L1 := by omega
          rw [ebd] at hlt ⊢
          refine cont N' L1 _ _ _ (by omega) u1 (updZ_s _ _ _) u2 ⟨hL1.1, by omega⟩ (fun o h1 _ => ?_) (Or.inr ⟨[j], ⟨hbj, hr0⟩, ⟨hca.2.2, trivial⟩, ?_⟩)
          · cases o with
            | nil => exact Int.le_refl _
            | cons i o =>
              rw [hr0] at h1
              have := h1.1
              simp at this
          · rw [hrun]; rfl
        · have hm1 : cnt (sd (sd P U) (2 ^ j)) ≠ 0 := fun e => hr0 ((cnt_zero hR64).mp e)
          refine ⟨by omega, ?_⟩
          have etr : updZ (updZ tr d (j : Int)) (d + 1) (-1) d = (j : Int) := by rw [updZ_n (by omega), updZ_s]
          have hgo := ihm m (n + 1 + q * (1 + tc m)) (d + 1) (U ||| 2 ^ j) bs (updZ (updZ tr d (j : Int)) (d + 1) (-1)) (updZ dn (d + 1) t1) (updZ ln (d + 1) L1) 0 (by rw [← hsd]; omega) (by omega) (by omega) (fun i hi => by
            rw [or_one] at hi
            simp only [Bool.or_eq_true, decide_eq_true_eq] at hi
            rcases hi with hi | hi
            · exact hUP i hi
            · rw [← hi]; exact hca.1) (or_lt hU hj) (by omega) (by rw [updZ_s]; rfl) (by rw [updZ_s]; omega) (by rw [updZ_s]; omega) hbs (by omega) (fun _ => by
              show 0 ≤ updZ (updZ tr d (j : Int)) (d + 1) (-1) d ∧ updZ (updZ tr d (j : Int)) (d + 1) (-1) d ≤ 5
              rw [etr]; omega) (by rw [rc_0, ← hsd]; omega) (fun n' bs' tr' dn' ln' k0 k1 k2 k3 k4 k5 => by
              have e1 : (((d + 1 : Nat) : Int) - 1) = (d : Int) := by omega
              have e2 : (if fx < d + 1 then sd (U ||| 2 ^ j) (2 ^ (updZ (updZ tr d (j : Int)) (d + 1) (-1) (d + 1 - 1)).toNat) else (U ||| 2 ^ j)) = U := by
                rw [if_pos (by omega)]
                show sd (U ||| 2 ^ j) (2 ^ (updZ (updZ tr d (j : Int)) (d + 1) (-1) d).toNat) = U
                rw [etr]
                exact sd_or_one hca.2.1
              rw [e1, e2]
              rw [updZ_s, updZ_s, ← hsd] at k4 k5
              refine cont n' bs' tr' dn' ln' k0 (fun k hk => by rw [k1 k (by omega), updZ_n (by omega)]; exact u1 k hk) (by rw [k1 d (by omega)]; exact etr) (fun k hk => by rw [(k2 k (by omega)).1, (k2 k (by omega)).2]; exact u2 k hk) k3 (fun o h1 h2 => k4 o h1 h2 (fun _ _ _ => by omega)) ?_
              rcases k5 with e | ⟨o, o1, o2, o3⟩
              · exact Or.inl e
              · exact Or.inr ⟨j :: o, ⟨hbj, o1⟩, ⟨hca.2.2, o2⟩, by rw [hrun]; exact o3⟩) N' (by
              obtain ⟨m', rfl⟩ : ∃ m', m = m' + 1 := ⟨m - 1, by omega⟩
              show n + 1 + q * (1 + tc (m' + 1)) + 1 + (m' + 1) * (1 + tc m') ≤ N'
              have : tc (m' + 1) = 1 + (m' + 1) * (1 + tc m') := rfl
              omega)
          exact hgo
        · refine cont N' bs _ _ _ (by omega) u1 (updZ_s _ _ _) u2 ⟨hbs.1, Int.le_refl _⟩ (fun o h1 _ => ?_) (Or.inl rfl)
          have g1 := jps_run (tl := tl) hlen hR64 hz h1 (Int.le_refl _) hL1.1
          have g2 := run_ge rel len tl o t1 L1
          omega
/-- the jobs that stand on the first k places -/
def um (tr : Nat → Int) : Nat → Nat
  | 0 => 0
  | k + 1 => um tr k ||| 2 ^ (tr k).toNat
theorem um_cong {tr tr' : Nat → Int} : ∀ {n : Nat}, (∀ k, k < n → tr' k = tr k) → um tr' n = um tr n
  | 0, _ => rfl
  | n + 1, h => by
    show um tr' n ||| 2 ^ (tr' n).toNat = um tr n ||| 2 ^ (tr n).toNat
    rw [um_cong (fun k hk => h k (by omega)), h n (by omega)]
theorem um_lt {tr : Nat → Int} : ∀ {n : Nat}, (∀ k, k < n → 0 ≤ tr k ∧ tr k ≤ 5) → um tr n < 64
  | 0, _ => show 0 < 64 by decide
  | n + 1, h => or_lt (um_lt fun k hk => h k (by omega)) (by have := h n (by omega); omega)
theorem s_top {rel len tl : Nat → Int} (hd : dOK rel len tl) {P : Nat} (hP : P < 64) (a b : Int) (fx : Nat) {tr dn ln : Nat → Int} (htr : ∀ k, k < fx → 0 ≤ tr k ∧ tr k ≤ 5) (hUP : ∀ i, (um tr fx).testBit i = true → P.testBit i = true) (hall : fx + cnt (sd P (um tr fx)) = cnt P) (hlt : fx < cnt P) (hdn : 0 ≤ dn fx ∧ dn fx ≤ 212 * fx) (hln : 0 ≤ ln fx ∧ ln fx ≤ 212 * fx + 200) :
    sWp rel len tl P a b fx (fun bs tr' dn' ln' => wMin rel len tl a b (sd P (um tr fx)) (um tr fx) (dn fx) (ln fx) bs ∧ (0 ≤ bs ∧ bs ≤ 100000) ∧ (∀ k, k < fx → tr' k = tr k) ∧ ∀ k, k ≤ fx → dn' k = dn k ∧ ln' k = ln k) 4096 (fx : Int) (um tr fx) 100000 (updZ tr fx (-1)) dn ln := by
  have e6 : tc 6 = 3193 := by decide
  have hc6 := cnt_le (sd P (um tr fx))
  have htc : 0 + 1 + cnt (sd P (um tr fx)) * (1 + tc (cnt (sd P (um tr fx)) - 1)) ≤ 4096 := by
    have h : ∀ m, m ≤ 6 → 0 + 1 + m * (1 + tc (m - 1)) ≤ 4096 := by decide
    exact h _ hc6
  refine s_node hd hP a b fx _ (cnt (sd P (um tr fx))) (cnt (sd P (um tr fx))) 0 fx (um tr fx) 100000 (updZ tr fx (-1)) dn ln 0 rfl (by omega) hall hUP (um_lt htr) (by omega) (by rw [updZ_s]; rfl) hdn hln (by omega) (Nat.le_refl _) (fun h => absurd h (by omega)) (by rw [rc_0]; exact Nat.le_refl _) (fun n' bs' tr' dn' ln' k0 k1 k2 k3 k4 k5 => ?_) 4096 htc
  have hpost : wMin rel len tl a b (sd P (um tr fx)) (um tr fx) (dn fx) (ln fx) bs' ∧ (0 ≤ bs' ∧ bs' ≤ 100000) ∧ (∀ k, k < fx → tr' k = tr k) ∧ ∀ k, k ≤ fx → dn' k = dn k ∧ ln' k = ln k := ⟨⟨fun o h1 h2 => k4 o h1 h2 (fun _ _ _ => by omega), k5⟩, k3, fun k hk => by rw [k1 k hk, updZ_n (by omega)], k2⟩
  have hlv : (fx : Int) - 1 < fx := by omega
  cases n' with
  | zero => exact ⟨hlv, hpost⟩
  | succ n' => exact Or.inl ⟨hlv, hpost⟩
end
section
/-! orders by their number in the dictionary; the first best order; greatest values -/
def fact : Nat → Nat
  | 0 => 1
  | n + 1 => fact n * (n + 1)
theorem fact_pos : ∀ n, 0 < fact n
  | 0 => by decide
  | n + 1 => Nat.mul_pos (fact_pos n) (by omega)
theorem fact_720 {n : Nat} (h : n ≤ 6) : fact n ≤ 720 := (by decide : ∀ n, n ≤ 6 → fact n ≤ 720) n h
/-- the job that has exactly s lesser ones in the set R -/
def kth (R s : Nat) : Nat := ((List.range 6).find? (fun j => R.testBit j && decide (fb_ct R.testBit j = s))).getD 0
theorem kth_ok {R s : Nat} (h : s < cnt R) : kth R s < 6 ∧ R.testBit (kth R s) = true ∧ fb_ct R.testBit (kth R s) = s := by
  obtain ⟨i, h1, h2, h3⟩ := fb_ct_kth (p := R.testBit) (n := 6) h
  unfold kth
  cases hf : (List.range 6).find? (fun j => R.testBit j && decide (fb_ct R.testBit j = s)) with
  | none =>
    have := List.find?_eq_none.mp hf i (List.mem_range.mpr h1)
    simp [h2, h3] at this
  | some j =>
    have g1 := List.find?_some hf
    have g2 := List.mem_of_find?_eq_some hf
    simp only [Bool.and_eq_true, decide_eq_true_eq] at g1
    exact ⟨List.mem_range.mp g2, g1.1, g1.2⟩
theorem kth_one {R s j : Nat} (hj : j < 6) (h : R.testBit j = true) (hs : fb_ct R.testBit j = s) : kth R s = j := by
  have h1 : s < cnt R := by
    have := fb_ct_mono R.testBit (show j + 1 ≤ 6 from hj)
    rw [fb_ct_succ, h] at this
    simp at this
    unfold cnt
    omega
  obtain ⟨g1, g2, g3⟩ := kth_ok h1
  exact fb_ct_kth_one g2 h (by omega)
theorem ct_lt_cnt {R j : Nat} (hj : j < 6) (h : R.testBit j = true) : fb_ct R.testBit j < cnt R := by
  have := fb_ct_mono R.testBit (show j + 1 ≤ 6 from hj)
  rw [fb_ct_succ, h] at this
  simp at this
  unfold cnt
  omega
theorem ct_lt {R i j : Nat} (hij : i < j) (h : R.testBit i = true) : fb_ct R.testBit i < fb_ct R.testBit j := by
  have := fb_ct_mono R.testBit (show i + 1 ≤ j from hij)
  rw [fb_ct_succ, h] at this
  simp at this
  omega
/-- order number c of the set R, which has m jobs -/
def dec : Nat → Nat → Nat → List Nat
  | 0, _, _ => []
  | m + 1, R, c => kth R (c / fact m) :: dec m (sd R (2 ^ kth R (c / fact m))) (c % fact m)
theorem skip_lt {m c : Nat} (h : c < fact (m + 1)) : c / fact m < m + 1 := by
  refine (Nat.div_lt_iff_lt_mul (fact_pos m)).mpr ?_
  rw [Nat.mul_comm]
  exact h
theorem dec_ord : ∀ (m R c : Nat), R < 64 → cnt R = m → c < fact m → isOrd R (dec m R c)
  | 0, R, c, hR, hm, _ => (cnt_zero hR).mp hm
  | m + 1, R, c, hR, hm, hc => by
    obtain ⟨g1, g2, g3⟩ := kth_ok (R := R) (s := c / fact m) (by have := skip_lt hc; omega)
    have h1 := cnt_one g1 g2
    exact ⟨g2, dec_ord m _ _ (sd_lt _ hR) (by omega) (Nat.mod_lt _ (fact_pos m))⟩
theorem dec_cons {m R j c' : Nat} (hj : j < 6) (h : R.testBit j = true) (hc : c' < fact m) : dec (m + 1) R (fb_ct R.testBit j * fact m + c') = j :: dec m (sd R (2 ^ j)) c' := by
  have e1 : (fb_ct R.testBit j * fact m + c') / fact m = fb_ct R.testBit j := by
    rw [Nat.mul_comm, Nat.mul_add_div (fact_pos m), Nat.div_eq_of_lt hc, Nat.add_zero]
  have e2 : (fb_ct R.testBit j * fact m + c') % fact m = c' := by
    rw [Nat.mul_comm, Nat.mul_add_mod, Nat.mod_eq_of_lt hc]
  show kth R _ :: dec m (sd R (2 ^ kth R _)) _ = _
  rw [e1, e2, kth_one hj h rfl]
theorem num_lt {m s c' : Nat} (hs : s < m + 1) (hc : c' < fact m) : s * fact m + c' < fact (m + 1) := by
  have h1 : (s + 1) * fact m ≤ (m + 1) * fact m := Nat.mul_le_mul_right _ (by omega)
  rw [Nat.succ_mul] at h1
  show _ < fact m * (m + 1)
  rw [Nat.mul_comm (fact m)]
  omega
theorem dec_all : ∀ (o : List Nat) (R m : Nat), R < 64 → cnt R = m → isOrd R o → ∃ c, c < fact m ∧ dec m R c = o
  | [], R, m, hR, hm, h => by
    have h : R = 0 := h
    subst h
    have : cnt 0 = 0 := by decide
    have e : m = 0 := by omega
    subst e
    exact ⟨0, by decide, rfl⟩
  | j :: o, R, m, hR, hm, h => by
    obtain ⟨h1, h2⟩ := h
    have hj := bit_lt hR h1
    have h3 := cnt_one hj h1
    obtain ⟨m', rfl⟩ : ∃ m', m = m' + 1 := ⟨m - 1, by omega⟩
    obtain ⟨c', g1, g2⟩ := dec_all o _ m' (sd_lt _ hR) (by omega) h2
    have h4 := ct_lt_cnt hj h1
    exact ⟨fb_ct R.testBit j * fact m' + c', num_lt (by omega) g1, by rw [dec_cons hj h1 g1, g2]⟩
/-- o is the first order of R, in the dictionary, that comes to the length v -/
def fst (rel len tl : Nat → Int) (v : Int) : Nat → Int → Int → List Nat → Prop
  | R, _, L, [] => R = 0 ∧ L = v
  | R, t, L, j :: o => R.testBit j = true ∧ (∀ i, i < j → R.testBit i = true → ¬ ∃ o', isOrd (sd R (2 ^ i)) o' ∧ run rel len tl (nx rel len t i) (max L (nx rel len t i + tl i)) o' = v) ∧ fst rel len tl v (sd R (2 ^ j)) (nx rel len t j) (max L (nx rel len t j + tl j)) o
theorem fst_ord {rel len tl : Nat → Int} {v : Int} : ∀ (o : List Nat) (R : Nat) (t L : Int), fst rel len tl v R t L o → isOrd R o ∧ run rel len tl t L o = v
  | [], R, t, L, h => h
  | j :: o, R, t, L, h => by
    obtain ⟨h1, -, h3⟩ := h
    have := fst_ord o _ _ _ h3
    exact ⟨⟨h1, this.1⟩, this.2⟩
theorem fst_one {rel len tl : Nat → Int} {v : Int} : ∀ (o o' : List Nat) (R : Nat) (t L : Int), fst rel len tl v R t L o → fst rel len tl v R t L o' → o = o'
  | [], [], _, _, _, _, _ => rfl
  | [], j :: o', R, t, L, h, h' => by
    have h1 : R = 0 := h.1
    have h2 : R.testBit j = true := h'.1
    rw [h1] at h2
    simp at h2
  | j :: o, [], R, t, L, h, h' => by
    have h1 : R = 0 := h'.1
    have h2 : R.testBit j = true := h.1
    rw [h1] at h2
    simp at h2
  | j :: o, j' :: o', R, t, L, h, h' => by
    obtain ⟨a1, a2, a3⟩ := h
    obtain ⟨b1, b2, b3⟩ := h'
    rcases Nat.lt_trichotomy j j' with q | q | q
    · exact absurd ⟨o, fst_ord o _ _ _ a3⟩ (b2 j q a1)
    · subst q
      rw [fst_one o o' _ _ _ a3 b3]
    · exact absurd ⟨o', fst_ord o' _ _ _ b3⟩ (a2 j' q b1)
theorem dec_fst {rel len tl : Nat → Int} {v : Int} : ∀ (m R c : Nat) (t L : Int), R < 64 → cnt R = m → c < fact m → run rel len tl t L (dec m R c) = v → (∀ c', c' < c → run rel len tl t L (dec m R c') ≠ v) → fst rel len tl v R t L (dec m R c)
  | 0, R, c, t, L, hR, hm, hc, hv, _ => ⟨(cnt_zero hR).mp hm, hv⟩
  | m + 1, R, c, t, L, hR, hm, hc, hv, hf => by
    obtain ⟨g1, g2, g3⟩ := kth_ok (R := R) (s := c / fact m) (by have := skip_lt hc; omega)
    have h1 := cnt_one g1 g2
    have hm0 := Nat.mod_lt c (fact_pos m)
    have hdiv := Nat.div_add_mod c (fact m)
    rw [Nat.mul_comm] at hdiv
    generalize ej : kth R (c / fact m) = j at g1 g2 g3 h1
    have ed : dec (m + 1) R c = j :: dec m (sd R (2 ^ j)) (c % fact m) := by
      show kth R (c / fact m) :: dec m (sd R (2 ^ kth R (c / fact m))) (c % fact m) = _
      rw [ej]
    rw [ed] at hv ⊢
    refine ⟨g2, fun i hij hi => ?_, dec_fst m _ _ _ _ (sd_lt _ hR) (by omega) hm0 hv (fun c' hc' => ?_)⟩
    · rintro ⟨o', ho, hr⟩
      have hi6 := bit_lt hR hi
      have hci := cnt_one hi6 hi
      obtain ⟨c'', k1, k2⟩ := dec_all o' _ m (sd_lt _ hR) (by omega) ho
      have hlt := ct_lt (R := R) hij hi
      have hmul : (fb_ct R.testBit i + 1) * fact m ≤ (c / fact m) * fact m := Nat.mul_le_mul_right _ (by omega)
      rw [Nat.succ_mul] at hmul
      refine hf (fb_ct R.testBit i * fact m + c'') (by omega) ?_
      rw [dec_cons hi6 hi k1, k2]
      exact hr
    · have hmul : fb_ct R.testBit j * fact m = (c / fact m) * fact m := by rw [g3]
      have := hf (fb_ct R.testBit j * fact m + c') (by omega)
      rw [dec_cons g1 g2 (by omega)] at this
      exact this
/-- when job j begins in the order o, from time t on -/
def beg (rel len : Nat → Int) : Int → List Nat → Nat → Int
  | _, [], _ => 0
  | t, i :: o, j => if i = j then max t (rel i) else beg rel len (nx rel len t i) o j
/-- job a stands before job b -/
def before (a b : Nat) (o : List Nat) : Prop := ∃ k1 k2 : Nat, o[k1]? = some a ∧ o[k2]? = some b ∧ k1 < k2
theorem okO_in {a : Nat} {b : Int} : ∀ (o : List Nat) (U : Nat), U.testBit a = true → okO (a : Int) b U o
  | [], _, _ => trivial
  | j :: o, U, h => by
    refine ⟨fun q => ?_, okO_in o _ (by rw [or_one, h]; rfl)⟩
    have q2 := q.2.2
    rw [Int.toNat_natCast, h] at q2
    cases q2
theorem okO_before {a b : Nat} (hab : a ≠ b) : ∀ (o : List Nat) (R U : Nat), isOrd R o → R.testBit a = true → R.testBit b = true → U.testBit a = false → (okO (a : Int) (b : Int) U o ↔ before a b o)
  | [], R, U, h, ha, _, _ => by
    have h : R = 0 := h
    rw [h] at ha
    simp at ha
  | x :: o, R, U, h, ha, hb, hU => by
    obtain ⟨h1, h2⟩ := h
    by_cases hxb : x = b
    · subst hxb
      constructor
      · intro q
        exact absurd ⟨by omega, rfl, by rw [Int.toNat_natCast]; exact hU⟩ q.1
      · rintro ⟨k1, k2, e1, e2, hk⟩
        exfalso
        obtain ⟨k2', rfl⟩ : ∃ k2', k2 = k2' + 1 := ⟨k2 - 1, by omega⟩
        have e3 : o[k2']? = some x := e2
        have := (isOrd_mem o _ h2 x).mp (List.mem_of_getElem? e3)
        rw [sd_one] at this
        simp at this
    · by_cases hxa : x = a
      · subst hxa
        constructor
        · intro _
          have hmem : b ∈ o := (isOrd_mem o _ h2 b).mpr (by rw [sd_one, hb]; simp [hab])
          obtain ⟨k, hk⟩ := List.getElem?_of_mem hmem
          exact ⟨0, k + 1, rfl, hk, by omega⟩
        · intro _
          exact ⟨fun q => hxb (by omega), okO_in o _ (by rw [or_one]; simp)⟩
      · have ih := okO_before hab o (sd R (2 ^ x)) (U ||| 2 ^ x) h2 (by rw [sd_one, ha]; simp [hxa]) (by rw [sd_one, hb]; simp [hxb]) (by rw [or_one, hU]; simp [hxa])
        constructor
        · intro q
          obtain ⟨k1, k2, e1, e2, hk⟩ := ih.mp q.2
          exact ⟨k1 + 1, k2 + 1, e1, e2, by omega⟩
        · rintro ⟨k1, k2, e1, e2, hk⟩
          refine ⟨fun q => hxb (by omega), ih.mpr ?_⟩
          obtain ⟨k1', rfl⟩ : ∃ k', k1 = k' + 1 := by
            cases k1 with
            | zero =>
              have : x = a := Option.some.inj e1
              exact absurd this hxa
            | succ k => exact ⟨k, rfl⟩
          obtain ⟨k2', rfl⟩ : ∃ k', k2 = k' + 1 := ⟨k2 - 1, by omega⟩
          exact ⟨k1', k2', e1, e2, by omega⟩
/-- a longer tail or a later release makes no order shorter -/
theorem run_mono {rel len tl rel' tl' : Nat → Int} : ∀ (o : List Nat) (t t' L L' : Int), (∀ j, rel j ≤ rel' j) → (∀ j, tl j ≤ tl' j) → t ≤ t' → L ≤ L' → run rel len tl t L o ≤ run rel' len tl' t' L' o
  | [], _, _, _, _, _, _, _, h => h
  | j :: o, t, t', L, L', h1, h2, h3, h4 => by
    have a1 := h1 j
    have a2 := h2 j
    have e : nx rel len t j ≤ nx rel' len t' j := by unfold nx; omega
    exact run_mono o _ _ _ _ h1 h2 e (by omega)
theorem run_ge_of {rel len tl : Nat → Int} {j : Nat} : ∀ (o : List Nat) (t L : Int), j ∈ o → rel j + len j + tl j ≤ run rel len tl t L o ∧ ((∀ i, i ∈ o → 0 ≤ len i) → t + len j + tl j ≤ run rel len tl t L o)
  | [], _, _, h => absurd h List.not_mem_nil
  | i :: o, t, L, h => by
    have hg := run_ge rel len tl o (nx rel len t i) (max L (nx rel len t i + tl i))
    by_cases q : j = i
    · subst q
      have : rel j + len j ≤ nx rel len t j ∧ t + len j ≤ nx rel len t j := by unfold nx; omega
      exact ⟨by show _ ≤ run rel len tl (nx rel len t j) (max L (nx rel len t j + tl j)) o; omega, fun _ => by show _ ≤ run rel len tl (nx rel len t j) (max L (nx rel len t j + tl j)) o; omega⟩
    · have hm : j ∈ o := by
        rcases List.mem_cons.mp h with e | e
        · exact absurd e q
        · exact e
      have ih := run_ge_of (rel := rel) (len := len) (tl := tl) o (nx rel len t i) (max L (nx rel len t i + tl i)) hm
      refine ⟨ih.1, fun hl => ?_⟩
      have h1 := ih.2 (fun k hk => hl k (List.mem_cons_of_mem _ hk))
      have h2 := hl i List.mem_cons_self
      have h3 : t ≤ nx rel len t i := by unfold nx; omega
      show _ ≤ run rel len tl (nx rel len t i) (max L (nx rel len t i + tl i)) o
      omega
/-- z is the greatest value from 0 to 200 with Q, or -1 -/
def gIs (Q : Int → Prop) (z : Int) : Prop := (z = -1 ∧ ∀ v : Int, 0 ≤ v → v ≤ 200 → ¬ Q v) ∨ (0 ≤ z ∧ z ≤ 200 ∧ Q z ∧ ∀ v : Int, z < v → v ≤ 200 → ¬ Q v)
theorem gIs_one {Q : Int → Prop} {z z' : Int} (h : gIs Q z) (h' : gIs Q z') : z = z' := by
  rcases h with ⟨a1, a2⟩ | ⟨a1, a2, a3, a4⟩ <;> rcases h' with ⟨b1, b2⟩ | ⟨b1, b2, b3, b4⟩
  · omega
  · exact absurd b3 (a2 z' b1 b2)
  · exact absurd a3 (b2 z a1 a2)
  · rcases Int.lt_trichotomy z z' with q | q | q
    · exact absurd b3 (a4 z' q b2)
    · exact q
    · exact absurd a3 (b4 z q a2)
/-- some order keeps to the limit -/
def fits_ (rel len tl : Nat → Int) (P : Nat) (n : Int) : Prop := ∃ o, isOrd P o ∧ run rel len tl 0 0 o ≤ n
theorem fits_iff {rel len tl : Nat → Int} (hd : dOK rel len tl) {P : Nat} (hP : P < 64) {z n : Int} (h : wMin rel len tl (-1) (-1) P 0 0 0 z) : z ≤ n ↔ fits_ rel len tl P n := by
  constructor
  · intro hz
    rcases h.2 with e | ⟨o, h1, -, h3⟩
    · obtain ⟨o, ho⟩ := isOrd_ex _ P hP rfl
      have h1 := h.1 o ho (okO_no (by omega) o 0)
      have h2 := run_100000 hd hP (t := 0) (L := 0) (by omega) (by omega) o ho
      omega
    · exact ⟨o, h1, by omega⟩
  · rintro ⟨o, h1, h2⟩
    have := h.1 o h1 (okO_no (by omega) o 0)
    omega
theorem fits_tl {rel len tl : Nat → Int} {P j : Nat} {n v v' : Int} (hv : v' ≤ v) (h : fits_ rel len (updZ tl j v) P n) : fits_ rel len (updZ tl j v') P n := by
  obtain ⟨o, h1, h2⟩ := h
  refine ⟨o, h1, Int.le_trans (run_mono o 0 0 0 0 (fun _ => Int.le_refl _) (fun k => ?_) (Int.le_refl _) (Int.le_refl _)) h2⟩
  by_cases e : k = j
  · subst e; rw [updZ_s, updZ_s]; exact hv
  · rw [updZ_n e, updZ_n e]; exact Int.le_refl _
theorem fits_rel {rel len tl : Nat → Int} {P j : Nat} {n v v' : Int} (hv : v' ≤ v) (h : fits_ (updZ rel j v) len tl P n) : fits_ (updZ rel j v') len tl P n := by
  obtain ⟨o, h1, h2⟩ := h
  refine ⟨o, h1, Int.le_trans (run_mono o 0 0 0 0 (fun k => ?_) (fun _ => Int.le_refl _) (Int.le_refl _) (Int.le_refl _)) h2⟩
  by_cases e : k = j
  · subst e; rw [updZ_s, updZ_s]; exact hv
  · rw [updZ_n e, updZ_n e]; exact Int.le_refl _
end
section
-- ===== PART A: goes FIRST, ahead of the names: the tables' words, and 'selects' of the private methods out of them =====
/-- a private method of a class that the tables say can be made, by its rows of tables_1 -/
def lw_okq (q : MethodName × Nat) : Prop := (q.1.cls ≠ "java/lang/invoke/MethodHandle" ∧ q.1.cls ≠ "java/lang/invoke/VarHandle") ∧ Cond.instantiable q.1.cls q.2 ∈ tables_1 ∧ Cond.privateMethod q.1 ∈ tables_1 ∧ Cond.instanceMethod q.1 ∈ tables_1
set_option maxRecDepth 100000
theorem lw_t1 {w : Cond} (h : w ∈ tables_1_1) : w ∈ tables_1 := List.mem_append_left _ h
theorem lw_t2 {w : Cond} (h : w ∈ tables_1_2) : w ∈ tables_1 := List.mem_append_right _ h
theorem lw_p0 : lw_okq (⟨"HeadTail", "has", "(I)Z"⟩, 11) := ⟨⟨by decide +kernel, by decide +kernel⟩, lw_t1 (List.mem_of_getElem? (i := 4) rfl), lw_t1 (List.mem_of_getElem? (i := 56) rfl), lw_t1 (List.mem_of_getElem? (i := 57) rfl)⟩
theorem lw_p1 : lw_okq (⟨"HeadTail", "put", "(IIII)V"⟩, 11) := ⟨⟨by decide +kernel, by decide +kernel⟩, lw_t1 (List.mem_of_getElem? (i := 4) rfl), lw_t1 (List.mem_of_getElem? (i := 60) rfl), lw_t1 (List.mem_of_getElem? (i := 61) rfl)⟩
theorem lw_p2 : lw_okq (⟨"HeadTail", "learn", "()V"⟩, 11) := ⟨⟨by decide +kernel, by decide +kernel⟩, lw_t1 (List.mem_of_getElem? (i := 4) rfl), lw_t1 (List.mem_of_getElem? (i := 84) rfl), lw_t1 (List.mem_of_getElem? (i := 85) rfl)⟩
theorem lw_p3 : lw_okq (⟨"HeadTail", "begin", "()V"⟩, 11) := ⟨⟨by decide +kernel, by decide +kernel⟩, lw_t1 (List.mem_of_getElem? (i := 4) rfl), lw_t1 (List.mem_of_getElem? (i := 88) rfl), lw_t1 (List.mem_of_getElem? (i := 89) rfl)⟩
theorem lw_p4 : lw_okq (⟨"HeadTail", "search", "(III)I"⟩, 11) := ⟨⟨by decide +kernel, by decide +kernel⟩, lw_t1 (List.mem_of_getElem? (i := 4) rfl), lw_t1 (List.mem_of_getElem? (i := 92) rfl), lw_t1 (List.mem_of_getElem? (i := 93) rfl)⟩
theorem lw_p5 : lw_okq (⟨"HeadTail", "count", "()I"⟩, 11) := ⟨⟨by decide +kernel, by decide +kernel⟩, lw_t1 (List.mem_of_getElem? (i := 4) rfl), lw_t1 (List.mem_of_getElem? (i := 96) rfl), lw_t1 (List.mem_of_getElem? (i := 97) rfl)⟩
theorem lw_p6 : lw_okq (⟨"HeadTail", "nextJob", "(IIII)I"⟩, 11) := ⟨⟨by decide +kernel, by decide +kernel⟩, lw_t1 (List.mem_of_getElem? (i := 4) rfl), lw_t1 (List.mem_of_getElem? (i := 101) rfl), lw_t1 (List.mem_of_getElem? (i := 102) rfl)⟩
theorem lw_p7 : lw_okq (⟨"HeadTail", "place", "(II)V"⟩, 11) := ⟨⟨by decide +kernel, by decide +kernel⟩, lw_t1 (List.mem_of_getElem? (i := 4) rfl), lw_t1 (List.mem_of_getElem? (i := 105) rfl), lw_t1 (List.mem_of_getElem? (i := 106) rfl)⟩
theorem lw_p8 : lw_okq (⟨"HeadTail", "boundFor", "(II)I"⟩, 11) := ⟨⟨by decide +kernel, by decide +kernel⟩, lw_t1 (List.mem_of_getElem? (i := 4) rfl), lw_t1 (List.mem_of_getElem? (i := 109) rfl), lw_t1 (List.mem_of_getElem? (i := 110) rfl)⟩
theorem lw_p9 : lw_okq (⟨"HeadTail", "interruptedLength", "(II)I"⟩, 11) := ⟨⟨by decide +kernel, by decide +kernel⟩, lw_t1 (List.mem_of_getElem? (i := 4) rfl), lw_t1 (List.mem_of_getElem? (i := 113) rfl), lw_t1 (List.mem_of_getElem? (i := 114) rfl)⟩
theorem lw_p10 : lw_okq (⟨"HeadTail", "nextRelease", "(I)I"⟩, 11) := ⟨⟨by decide +kernel, by decide +kernel⟩, lw_t1 (List.mem_of_getElem? (i := 4) rfl), lw_t1 (List.mem_of_getElem? (i := 117) rfl), lw_t1 (List.mem_of_getElem? (i := 118) rfl)⟩
theorem lw_p11 : lw_okq (⟨"HeadTail", "mostUrgent", "(I)I"⟩, 11) := ⟨⟨by decide +kernel, by decide +kernel⟩, lw_t1 (List.mem_of_getElem? (i := 4) rfl), lw_t1 (List.mem_of_getElem? (i := 121) rfl), lw_t1 (List.mem_of_getElem? (i := 122) rfl)⟩
theorem lw_p12 : lw_okq (⟨"HeadTail", "firstFitting", "(II)I"⟩, 11) := ⟨⟨by decide +kernel, by decide +kernel⟩, lw_t1 (List.mem_of_getElem? (i := 4) rfl), lw_t1 (List.mem_of_getElem? (i := 125) rfl), lw_t1 (List.mem_of_getElem? (i := 126) rfl)⟩
theorem lw_p13 : lw_okq (⟨"HeadTail", "plainLeast", "()I"⟩, 11) := ⟨⟨by decide +kernel, by decide +kernel⟩, lw_t1 (List.mem_of_getElem? (i := 4) rfl), lw_t1 (List.mem_of_getElem? (i := 153) rfl), lw_t1 (List.mem_of_getElem? (i := 154) rfl)⟩
theorem lw_p14 : lw_okq (⟨"HeadTailModel", "good", "(III)Z"⟩, 6) := ⟨⟨by decide +kernel, by decide +kernel⟩, lw_t1 (List.mem_of_getElem? (i := 161) rfl), lw_t1 (List.mem_of_getElem? (i := 191) rfl), lw_t1 (List.mem_of_getElem? (i := 192) rfl)⟩
theorem lw_p15 : lw_okq (⟨"HeadTailModel", "hold", "(IIII)V"⟩, 6) := ⟨⟨by decide +kernel, by decide +kernel⟩, lw_t1 (List.mem_of_getElem? (i := 161) rfl), lw_t1 (List.mem_of_getElem? (i := 195) rfl), lw_t1 (List.mem_of_getElem? (i := 196) rfl)⟩
def lw_privs_1 : List (MethodName × Nat) := [(⟨"HeadTail", "has", "(I)Z"⟩, 11), (⟨"HeadTail", "put", "(IIII)V"⟩, 11), (⟨"HeadTail", "learn", "()V"⟩, 11), (⟨"HeadTail", "begin", "()V"⟩, 11), (⟨"HeadTail", "search", "(III)I"⟩, 11), (⟨"HeadTail", "count", "()I"⟩, 11), (⟨"HeadTail", "nextJob", "(IIII)I"⟩, 11), (⟨"HeadTail", "place", "(II)V"⟩, 11), (⟨"HeadTail", "boundFor", "(II)I"⟩, 11), (⟨"HeadTail", "interruptedLength", "(II)I"⟩, 11), (⟨"HeadTail", "nextRelease", "(I)I"⟩, 11), (⟨"HeadTail", "mostUrgent", "(I)I"⟩, 11), (⟨"HeadTail", "firstFitting", "(II)I"⟩, 11), (⟨"HeadTail", "plainLeast", "()I"⟩, 11), (⟨"HeadTailModel", "good", "(III)Z"⟩, 6), (⟨"HeadTailModel", "hold", "(IIII)V"⟩, 6)]
theorem lw_r1 : ∀ q ∈ lw_privs_1, lw_okq q := List.forall_mem_cons.mpr ⟨lw_p0, List.forall_mem_cons.mpr ⟨lw_p1, List.forall_mem_cons.mpr ⟨lw_p2, List.forall_mem_cons.mpr ⟨lw_p3, List.forall_mem_cons.mpr ⟨lw_p4, List.forall_mem_cons.mpr ⟨lw_p5, List.forall_mem_cons.mpr ⟨lw_p6, List.forall_mem_cons.mpr ⟨lw_p7, List.forall_mem_cons.mpr ⟨lw_p8, List.forall_mem_cons.mpr ⟨lw_p9, List.forall_mem_cons.mpr ⟨lw_p10, List.forall_mem_cons.mpr ⟨lw_p11, List.forall_mem_cons.mpr ⟨lw_p12, List.forall_mem_cons.mpr ⟨lw_p13, List.forall_mem_cons.mpr ⟨lw_p14, List.forall_mem_cons.mpr ⟨lw_p15, fun _ h => absurd h List.not_mem_nil⟩⟩⟩⟩⟩⟩⟩⟩⟩⟩⟩⟩⟩⟩⟩⟩
theorem lw_p16 : lw_okq (⟨"HeadTailModel", "is", "(I)Z"⟩, 6) := ⟨⟨by decide +kernel, by decide +kernel⟩, lw_t1 (List.mem_of_getElem? (i := 161) rfl), lw_t1 (List.mem_of_getElem? (i := 203) rfl), lw_t1 (List.mem_of_getElem? (i := 204) rfl)⟩
theorem lw_p17 : lw_okq (⟨"HeadTailModel", "leastOf", "(II)I"⟩, 6) := ⟨⟨by decide +kernel, by decide +kernel⟩, lw_t1 (List.mem_of_getElem? (i := 161) rfl), lw_t1 (List.mem_of_getElem? (i := 223) rfl), lw_t1 (List.mem_of_getElem? (i := 224) rfl)⟩
theorem lw_p18 : lw_okq (⟨"HeadTailModel", "count", "()V"⟩, 6) := ⟨⟨by decide +kernel, by decide +kernel⟩, lw_t1 (List.mem_of_getElem? (i := 161) rfl), lw_t1 (List.mem_of_getElem? (i := 227) rfl), lw_t1 (List.mem_of_getElem? (i := 228) rfl)⟩
theorem lw_p19 : lw_okq (⟨"HeadTailModel", "spell", "(I)I"⟩, 6) := ⟨⟨by decide +kernel, by decide +kernel⟩, lw_t1 (List.mem_of_getElem? (i := 161) rfl), lw_t1 (List.mem_of_getElem? (i := 232) rfl), lw_t1 (List.mem_of_getElem? (i := 233) rfl)⟩
theorem lw_p20 : lw_okq (⟨"HeadTailModel", "nth", "(II)I"⟩, 6) := ⟨⟨by decide +kernel, by decide +kernel⟩, lw_t1 (List.mem_of_getElem? (i := 161) rfl), lw_t1 (List.mem_of_getElem? (i := 237) rfl), lw_t1 (List.mem_of_getElem? (i := 238) rfl)⟩
theorem lw_p21 : lw_okq (⟨"HeadTailModel", "place", "(I)I"⟩, 6) := ⟨⟨by decide +kernel, by decide +kernel⟩, lw_t1 (List.mem_of_getElem? (i := 161) rfl), lw_t2 (List.mem_of_getElem? (i := 1) rfl), lw_t2 (List.mem_of_getElem? (i := 2) rfl)⟩
theorem lw_p22 : lw_okq (⟨"HeadTailModel", "best", "()V"⟩, 6) := ⟨⟨by decide +kernel, by decide +kernel⟩, lw_t1 (List.mem_of_getElem? (i := 161) rfl), lw_t2 (List.mem_of_getElem? (i := 9) rfl), lw_t2 (List.mem_of_getElem? (i := 10) rfl)⟩
theorem lw_p23 : lw_okq (⟨"HeadTailModel", "bound", "(I)I"⟩, 6) := ⟨⟨by decide +kernel, by decide +kernel⟩, lw_t1 (List.mem_of_getElem? (i := 161) rfl), lw_t2 (List.mem_of_getElem? (i := 29) rfl), lw_t2 (List.mem_of_getElem? (i := 30) rfl)⟩
theorem lw_p24 : lw_okq (⟨"HeadTailModel", "greatest", "(III)I"⟩, 6) := ⟨⟨by decide +kernel, by decide +kernel⟩, lw_t1 (List.mem_of_getElem? (i := 161) rfl), lw_t2 (List.mem_of_getElem? (i := 37) rfl), lw_t2 (List.mem_of_getElem? (i := 38) rfl)⟩
def lw_privs_2 : List (MethodName × Nat) := [(⟨"HeadTailModel", "is", "(I)Z"⟩, 6), (⟨"HeadTailModel", "leastOf", "(II)I"⟩, 6), (⟨"HeadTailModel", "count", "()V"⟩, 6), (⟨"HeadTailModel", "spell", "(I)I"⟩, 6), (⟨"HeadTailModel", "nth", "(II)I"⟩, 6), (⟨"HeadTailModel", "place", "(I)I"⟩, 6), (⟨"HeadTailModel", "best", "()V"⟩, 6), (⟨"HeadTailModel", "bound", "(I)I"⟩, 6), (⟨"HeadTailModel", "greatest", "(III)I"⟩, 6)]
theorem lw_r2 : ∀ q ∈ lw_privs_2, lw_okq q := List.forall_mem_cons.mpr ⟨lw_p16, List.forall_mem_cons.mpr ⟨lw_p17, List.forall_mem_cons.mpr ⟨lw_p18, List.forall_mem_cons.mpr ⟨lw_p19, List.forall_mem_cons.mpr ⟨lw_p20, List.forall_mem_cons.mpr ⟨lw_p21, List.forall_mem_cons.mpr ⟨lw_p22, List.forall_mem_cons.mpr ⟨lw_p23, List.forall_mem_cons.mpr ⟨lw_p24, fun _ h => absurd h List.not_mem_nil⟩⟩⟩⟩⟩⟩⟩⟩⟩
def lw_privs : List (MethodName × Nat) := lw_privs_1 ++ (lw_privs_2)
def lw_tbl : List Cond := k2_sels lw_privs ++ tables_1
theorem lw_privs_ok : ∀ q ∈ lw_privs, lw_okq q := by
  show ∀ q ∈ lw_privs_1 ++ (lw_privs_2), lw_okq q
  exact List.forall_mem_append.mpr ⟨lw_r1, lw_r2⟩
-- ===== ONE list of words for every method: the tables' words that hold all through a run =====
def lw_all : List Cond := lw_tbl.filter goodWord
/-- a word of the tables by its place: claim/WORDS.tsv -/
theorem lw_w {w : Cond} (i : Nat) (h : lw_tbl[i]? = some w) (g : goodWord w = true) : w ∈ lw_all := List.mem_filter.mpr ⟨List.mem_of_getElem? h, g⟩
theorem lw_all_tbl {w : Cond} (h : w ∈ lw_all) : w ∈ lw_tbl := (List.mem_filter.mp h).1
theorem lw_self : GoodIn lw_all lw_all := fun w h => ⟨h, good_of_word (List.mem_filter.mp h).2⟩
/-- a class's field words, by their places -/
theorem lw_in (ws : List Cond) (ps : List Nat) (hp : ws = ps.filterMap (fun i => lw_tbl[i]?)) (hg : ws.all goodWord = true) : ∀ w ∈ ws, w ∈ lw_all := by
  intro w h
  have h1 := List.all_eq_true.mp hg w h
  rw [hp] at h
  obtain ⟨i, -, hi⟩ := List.mem_filterMap.mp h
  exact lw_w i hi h1
/-- the words of a contract for the method y with code b, L locals, answer r -/
abbrev ws_ (y : MethodName) (b : ByteArray) (L : Nat) (r : Option FieldType) : List Cond := Cond.code y b L r :: lw_all
theorem lw_meth {y : MethodName} {b : ByteArray} {L : Nat} {r : Option FieldType} (h : Cond.code y b L r ∈ lw_all) : GoodIn lw_all (ws_ y b L r) := by
  intro w hw
  rcases List.mem_cons.mp hw with e | e
  · rw [e]
    exact lw_self _ h
  · exact lw_self _ e
theorem lw_app {a c : List Cond} (ha : ∀ w ∈ a, w ∈ lw_all) (hc : GoodIn lw_all c) : GoodIn lw_all (a ++ c) := by
  intro w hw
  rcases List.mem_append.mp hw with e | e
  · exact lw_self w (ha w e)
  · exact hc w e
/-- what a call through an object asks: cwV n hts (lw_V ..) -/
theorem lw_V {own : String} {idx : Nat} {C : String} {y : MethodName} {b : ByteArray} {L : Nat} {r : Option FieldType} (h1 : Cond.methodLink own idx y ∈ lw_all) (h2 : Cond.instanceMethod y ∈ lw_all) (h3 : Cond.selects C y y ∈ lw_all) (h4 : Cond.initialized C ∈ lw_all) (h5 : Cond.code y b L r ∈ lw_all) : GoodIn lw_all (wsV own idx C y (ws_ y b L r)) := by
  refine lw_app ?_ (lw_meth h5)
  intro w hw
  simp only [List.mem_cons, List.not_mem_nil, or_false] at hw
  rcases hw with e | e | e | e
  · rw [e]; exact h1
  · rw [e]; exact h2
  · rw [e]; exact h3
  · rw [e]; exact h4
/-- what a static call asks: va_cwS n hts (lw_S ..) -/
theorem lw_S {own : String} {idx : Nat} {y : MethodName} {b : ByteArray} {L : Nat} {r : Option FieldType} (h1 : Cond.methodLink own idx y ∈ lw_all) (h2 : Cond.static y ∈ lw_all) (h3 : Cond.initialized y.cls ∈ lw_all) (h4 : Cond.code y b L r ∈ lw_all) : GoodIn lw_all (va_wsS own idx y (ws_ y b L r)) := by
  refine lw_app ?_ (lw_meth h4)
  intro w hw
  simp only [List.mem_cons, List.not_mem_nil, or_false] at hw
  rcases hw with e | e | e
  · rw [e]; exact h1
  · rw [e]; exact h2
  · rw [e]; exact h3
/-- the words of a contract for a method WITH HANDLERS (hh: its table) -/
abbrev wsW_ (y : MethodName) (b : ByteArray) (L : Nat) (r : Option FieldType) (hh : List (Nat × Nat × Nat × Nat)) : List Cond := Cond.codeWith y b L r hh :: lw_all
theorem lw_methW {y : MethodName} {b : ByteArray} {L : Nat} {r : Option FieldType} {hh : List (Nat × Nat × Nat × Nat)} (h : Cond.codeWith y b L r hh ∈ lw_all) : GoodIn lw_all (wsW_ y b L r hh) := by
  intro w hw
  rcases List.mem_cons.mp hw with e | e
  · rw [e]
    exact lw_self _ h
  · exact lw_self _ e
/-- any list of words by their places (lw_in), good -/
theorem lw_good {ws : List Cond} (h : ∀ w ∈ ws, w ∈ lw_all) : GoodIn lw_all ws := fun w hw => lw_self w (h w hw)
/-- what a call of a method with handlers asks: vx_cwVW n hts (lw_VW ..), vx_cwSW n hts (lw_SW ..) -/
theorem lw_VW {own : String} {idx : Nat} {C : String} {y : MethodName} {b : ByteArray} {L : Nat} {r : Option FieldType} {hh : List (Nat × Nat × Nat × Nat)} (h1 : Cond.methodLink own idx y ∈ lw_all) (h2 : Cond.instanceMethod y ∈ lw_all) (h3 : Cond.selects C y y ∈ lw_all) (h4 : Cond.initialized C ∈ lw_all) (h5 : Cond.codeWith y b L r hh ∈ lw_all) : GoodIn lw_all (wsV own idx C y (wsW_ y b L r hh)) := by
  refine lw_app ?_ (lw_methW h5)
  intro w hw
  simp only [List.mem_cons, List.not_mem_nil, or_false] at hw
  rcases hw with e | e | e | e
  · rw [e]; exact h1
  · rw [e]; exact h2
  · rw [e]; exact h3
  · rw [e]; exact h4
theorem lw_SW {own : String} {idx : Nat} {y : MethodName} {b : ByteArray} {L : Nat} {r : Option FieldType} {hh : List (Nat × Nat × Nat × Nat)} (h1 : Cond.methodLink own idx y ∈ lw_all) (h2 : Cond.static y ∈ lw_all) (h3 : Cond.initialized y.cls ∈ lw_all) (h4 : Cond.codeWith y b L r hh ∈ lw_all) : GoodIn lw_all (va_wsS own idx y (wsW_ y b L r hh)) := by
  refine lw_app ?_ (lw_methW h4)
  intro w hw
  simp only [List.mem_cons, List.not_mem_nil, or_false] at hw
  rcases hw with e | e | e
  · rw [e]; exact h1
  · rw [e]; exact h2
  · rw [e]; exact h3
/-- a word by its place in its run of the tables -/
theorem lw_at {r : List Cond} (hr : ∀ w ∈ r, w ∈ lw_tbl) {w : Cond} (i : Nat) (h : r[i]? = some w) : w ∈ lw_tbl := hr w (List.mem_of_getElem? h)
theorem lw_g {w : Cond} (h : w ∈ lw_tbl) (g : goodWord w = true) : w ∈ lw_all := List.mem_filter.mpr ⟨h, g⟩
theorem lw_ms : ∀ w ∈ k2_sels lw_privs, w ∈ lw_tbl := fun w h => show w ∈ k2_sels lw_privs ++ tables_1 from List.mem_append_left _ h
theorem lw_m1 : ∀ w ∈ tables_1_1, w ∈ lw_tbl := fun w h => show w ∈ k2_sels lw_privs ++ tables_1 from List.mem_append_right (k2_sels lw_privs) (show w ∈ tables_1 from List.mem_append_left _ h)
theorem lw_m2 : ∀ w ∈ tables_1_2, w ∈ lw_tbl := fun w h => show w ∈ k2_sels lw_privs ++ tables_1 from List.mem_append_right (k2_sels lw_privs) (show w ∈ tables_1 from List.mem_append_right _ h)
theorem qs0 : (Cond.selects "HeadTail" ⟨"HeadTail", "has", "(I)Z"⟩ ⟨"HeadTail", "has", "(I)Z"⟩) ∈ lw_all := lw_g (lw_at lw_ms 0 rfl) rfl
theorem qs1 : (Cond.selects "HeadTail" ⟨"HeadTail", "put", "(IIII)V"⟩ ⟨"HeadTail", "put", "(IIII)V"⟩) ∈ lw_all := lw_g (lw_at lw_ms 1 rfl) rfl
theorem qs2 : (Cond.selects "HeadTail" ⟨"HeadTail", "learn", "()V"⟩ ⟨"HeadTail", "learn", "()V"⟩) ∈ lw_all := lw_g (lw_at lw_ms 2 rfl) rfl
theorem qs3 : (Cond.selects "HeadTail" ⟨"HeadTail", "begin", "()V"⟩ ⟨"HeadTail", "begin", "()V"⟩) ∈ lw_all := lw_g (lw_at lw_ms 3 rfl) rfl
theorem qs4 : (Cond.selects "HeadTail" ⟨"HeadTail", "search", "(III)I"⟩ ⟨"HeadTail", "search", "(III)I"⟩) ∈ lw_all := lw_g (lw_at lw_ms 4 rfl) rfl
theorem qs5 : (Cond.selects "HeadTail" ⟨"HeadTail", "count", "()I"⟩ ⟨"HeadTail", "count", "()I"⟩) ∈ lw_all := lw_g (lw_at lw_ms 5 rfl) rfl
theorem qs6 : (Cond.selects "HeadTail" ⟨"HeadTail", "nextJob", "(IIII)I"⟩ ⟨"HeadTail", "nextJob", "(IIII)I"⟩) ∈ lw_all := lw_g (lw_at lw_ms 6 rfl) rfl
theorem qs7 : (Cond.selects "HeadTail" ⟨"HeadTail", "place", "(II)V"⟩ ⟨"HeadTail", "place", "(II)V"⟩) ∈ lw_all := lw_g (lw_at lw_ms 7 rfl) rfl
theorem qs8 : (Cond.selects "HeadTail" ⟨"HeadTail", "boundFor", "(II)I"⟩ ⟨"HeadTail", "boundFor", "(II)I"⟩) ∈ lw_all := lw_g (lw_at lw_ms 8 rfl) rfl
theorem qs9 : (Cond.selects "HeadTail" ⟨"HeadTail", "interruptedLength", "(II)I"⟩ ⟨"HeadTail", "interruptedLength", "(II)I"⟩) ∈ lw_all := lw_g (lw_at lw_ms 9 rfl) rfl
theorem qs10 : (Cond.selects "HeadTail" ⟨"HeadTail", "nextRelease", "(I)I"⟩ ⟨"HeadTail", "nextRelease", "(I)I"⟩) ∈ lw_all := lw_g (lw_at lw_ms 10 rfl) rfl
theorem qs11 : (Cond.selects "HeadTail" ⟨"HeadTail", "mostUrgent", "(I)I"⟩ ⟨"HeadTail", "mostUrgent", "(I)I"⟩) ∈ lw_all := lw_g (lw_at lw_ms 11 rfl) rfl
theorem qs12 : (Cond.selects "HeadTail" ⟨"HeadTail", "firstFitting", "(II)I"⟩ ⟨"HeadTail", "firstFitting", "(II)I"⟩) ∈ lw_all := lw_g (lw_at lw_ms 12 rfl) rfl
theorem qs13 : (Cond.selects "HeadTail" ⟨"HeadTail", "plainLeast", "()I"⟩ ⟨"HeadTail", "plainLeast", "()I"⟩) ∈ lw_all := lw_g (lw_at lw_ms 13 rfl) rfl
theorem qs14 : (Cond.selects "HeadTailModel" ⟨"HeadTailModel", "good", "(III)Z"⟩ ⟨"HeadTailModel", "good", "(III)Z"⟩) ∈ lw_all := lw_g (lw_at lw_ms 14 rfl) rfl
theorem qs15 : (Cond.selects "HeadTailModel" ⟨"HeadTailModel", "hold", "(IIII)V"⟩ ⟨"HeadTailModel", "hold", "(IIII)V"⟩) ∈ lw_all := lw_g (lw_at lw_ms 15 rfl) rfl
theorem qs16 : (Cond.selects "HeadTailModel" ⟨"HeadTailModel", "is", "(I)Z"⟩ ⟨"HeadTailModel", "is", "(I)Z"⟩) ∈ lw_all := lw_g (lw_at lw_ms 16 rfl) rfl
theorem qs17 : (Cond.selects "HeadTailModel" ⟨"HeadTailModel", "leastOf", "(II)I"⟩ ⟨"HeadTailModel", "leastOf", "(II)I"⟩) ∈ lw_all := lw_g (lw_at lw_ms 17 rfl) rfl
theorem qs18 : (Cond.selects "HeadTailModel" ⟨"HeadTailModel", "count", "()V"⟩ ⟨"HeadTailModel", "count", "()V"⟩) ∈ lw_all := lw_g (lw_at lw_ms 18 rfl) rfl
theorem qs19 : (Cond.selects "HeadTailModel" ⟨"HeadTailModel", "spell", "(I)I"⟩ ⟨"HeadTailModel", "spell", "(I)I"⟩) ∈ lw_all := lw_g (lw_at lw_ms 19 rfl) rfl
theorem qs20 : (Cond.selects "HeadTailModel" ⟨"HeadTailModel", "nth", "(II)I"⟩ ⟨"HeadTailModel", "nth", "(II)I"⟩) ∈ lw_all := lw_g (lw_at lw_ms 20 rfl) rfl
theorem qs21 : (Cond.selects "HeadTailModel" ⟨"HeadTailModel", "place", "(I)I"⟩ ⟨"HeadTailModel", "place", "(I)I"⟩) ∈ lw_all := lw_g (lw_at lw_ms 21 rfl) rfl
theorem qs22 : (Cond.selects "HeadTailModel" ⟨"HeadTailModel", "best", "()V"⟩ ⟨"HeadTailModel", "best", "()V"⟩) ∈ lw_all := lw_g (lw_at lw_ms 22 rfl) rfl
theorem qs23 : (Cond.selects "HeadTailModel" ⟨"HeadTailModel", "bound", "(I)I"⟩ ⟨"HeadTailModel", "bound", "(I)I"⟩) ∈ lw_all := lw_g (lw_at lw_ms 23 rfl) rfl
theorem qs24 : (Cond.selects "HeadTailModel" ⟨"HeadTailModel", "greatest", "(III)I"⟩ ⟨"HeadTailModel", "greatest", "(III)I"⟩) ∈ lw_all := lw_g (lw_at lw_ms 24 rfl) rfl
end
section
set_option maxRecDepth 100000
/-! HeadTail -/
def RX0 : String := "HeadTail"
def TX0 : u_T := fun k => match k with
  | 0 => ("HeadTail", "present", "I", false)
  | 1 => ("HeadTail", "releases", "[S", true)
  | 2 => ("HeadTail", "lengths", "[S", true)
  | 3 => ("HeadTail", "tails", "[S", true)
  | 4 => ("HeadTail", "left", "[S", true)
  | 5 => ("HeadTail", "tried", "[B", true)
  | 6 => ("HeadTail", "doneAt", "[I", true)
  | 7 => ("HeadTail", "lengthAt", "[I", true)
  | 8 => ("HeadTail", "known", "Z", false)
  | 9 => ("HeadTail", "leastLength", "I", false)
  | _ => ("HeadTail", "bestOrder", "[B", true)
def tyX0 : Nat → FieldType := fun k => match k with
  | 0 => .int
  | 1 => .array .short
  | 2 => .array .short
  | 3 => .array .short
  | 4 => .array .short
  | 5 => .array .byte
  | 6 => .array .int
  | 7 => .array .int
  | 8 => .boolean
  | 9 => .int
  | _ => .array .byte
abbrev wsX00 : List Cond := u_ws RX0 TX0 11
theorem nmX0 : ∀ a, a < 11 → ∀ b, b < 11 → a ≠ b → (TX0 a).2.1 ≠ (TX0 b).2.1 := by decide +kernel
theorem tyX0_ok : ∀ k, k < 11 → parseFieldDescriptor (TX0 k).2.2.1 = some (tyX0 k) := by decide +kernel
abbrev cX0_init : ByteArray := prog_1_method_1_code
def yX0_init : MethodName := ⟨RX0, "<init>", "()V"⟩
theorem dX0_init_0 : decode cX0_init 0 = .ok (.aload_n 0, 1) := by decide +kernel
theorem dX0_init_1 : decode cX0_init 1 = .ok (.invokespecial 1, 3) := by decide +kernel
theorem dX0_init_4 : decode cX0_init 4 = .ok (.aload_n 0, 1) := by decide +kernel
theorem dX0_init_5 : decode cX0_init 5 = .ok (.bipush 6, 2) := by decide +kernel
theorem dX0_init_7 : decode cX0_init 7 = .ok (.newarray .short, 2) := by decide +kernel
theorem dX0_init_9 : decode cX0_init 9 = .ok (.putfield 7, 3) := by decide +kernel
theorem dX0_init_12 : decode cX0_init 12 = .ok (.aload_n 0, 1) := by decide +kernel
theorem dX0_init_13 : decode cX0_init 13 = .ok (.bipush 6, 2) := by decide +kernel
theorem dX0_init_15 : decode cX0_init 15 = .ok (.newarray .short, 2) := by decide +kernel
theorem dX0_init_17 : decode cX0_init 17 = .ok (.putfield 13, 3) := by decide +kernel
theorem dX0_init_20 : decode cX0_init 20 = .ok (.aload_n 0, 1) := by decide +kernel
theorem dX0_init_21 : decode cX0_init 21 = .ok (.bipush 6, 2) := by decide +kernel
theorem dX0_init_23 : decode cX0_init 23 = .ok (.newarray .short, 2) := by decide +kernel
theorem dX0_init_25 : decode cX0_init 25 = .ok (.putfield 16, 3) := by decide +kernel
theorem dX0_init_28 : decode cX0_init 28 = .ok (.aload_n 0, 1) := by decide +kernel
theorem dX0_init_29 : decode cX0_init 29 = .ok (.bipush 6, 2) := by decide +kernel
theorem dX0_init_31 : decode cX0_init 31 = .ok (.newarray .short, 2) := by decide +kernel
theorem dX0_init_33 : decode cX0_init 33 = .ok (.putfield 19, 3) := by decide +kernel
theorem dX0_init_36 : decode cX0_init 36 = .ok (.aload_n 0, 1) := by decide +kernel
theorem dX0_init_37 : decode cX0_init 37 = .ok (.bipush 8, 2) := by decide +kernel
theorem dX0_init_39 : decode cX0_init 39 = .ok (.newarray .byte, 2) := by decide +kernel
theorem dX0_init_41 : decode cX0_init 41 = .ok (.putfield 22, 3) := by decide +kernel
theorem dX0_init_44 : decode cX0_init 44 = .ok (.aload_n 0, 1) := by decide +kernel
theorem dX0_init_45 : decode cX0_init 45 = .ok (.bipush 8, 2) := by decide +kernel
theorem dX0_init_47 : decode cX0_init 47 = .ok (.newarray .int, 2) := by decide +kernel
theorem dX0_init_49 : decode cX0_init 49 = .ok (.putfield 26, 3) := by decide +kernel
theorem dX0_init_52 : decode cX0_init 52 = .ok (.aload_n 0, 1) := by decide +kernel
theorem dX0_init_53 : decode cX0_init 53 = .ok (.bipush 8, 2) := by decide +kernel
theorem dX0_init_55 : decode cX0_init 55 = .ok (.newarray .int, 2) := by decide +kernel
theorem dX0_init_57 : decode cX0_init 57 = .ok (.putfield 30, 3) := by decide +kernel
theorem dX0_init_60 : decode cX0_init 60 = .ok (.aload_n 0, 1) := by decide +kernel
theorem dX0_init_61 : decode cX0_init 61 = .ok (.bipush 6, 2) := by decide +kernel
theorem dX0_init_63 : decode cX0_init 63 = .ok (.newarray .byte, 2) := by decide +kernel
theorem dX0_init_65 : decode cX0_init 65 = .ok (.putfield 33, 3) := by decide +kernel
theorem dX0_init_68 : decode cX0_init 68 = .ok (.return_, 1) := by decide +kernel
abbrev cX0_add : ByteArray := prog_1_method_5_code
def yX0_add : MethodName := ⟨RX0, "add", "(III)I"⟩
theorem dX0_add_0 : decode cX0_add 0 = .ok (.iload_n 1, 1) := by decide +kernel
theorem dX0_add_1 : decode cX0_add 1 = .ok (.iload_n 2, 1) := by decide +kernel
theorem dX0_add_2 : decode cX0_add 2 = .ok (.iload_n 3, 1) := by decide +kernel
theorem dX0_add_3 : decode cX0_add 3 = .ok (.invokestatic 44, 3) := by decide +kernel
theorem dX0_add_6 : decode cX0_add 6 = .ok (.ifCond .ne 5, 3) := by decide +kernel
theorem dX0_add_9 : decode cX0_add 9 = .ok (.iconst (-1), 1) := by decide +kernel
theorem dX0_add_10 : decode cX0_add 10 = .ok (.ireturn, 1) := by decide +kernel
theorem dX0_add_11 : decode cX0_add 11 = .ok (.iconst 0, 1) := by decide +kernel
theorem dX0_add_12 : decode cX0_add 12 = .ok (.istore 4, 2) := by decide +kernel
theorem dX0_add_14 : decode cX0_add 14 = .ok (.iload 4, 2) := by decide +kernel
theorem dX0_add_16 : decode cX0_add 16 = .ok (.bipush 6, 2) := by decide +kernel
theorem dX0_add_18 : decode cX0_add 18 = .ok (.if_icmp .ge 43, 3) := by decide +kernel
theorem dX0_add_21 : decode cX0_add 21 = .ok (.aload_n 0, 1) := by decide +kernel
theorem dX0_add_22 : decode cX0_add 22 = .ok (.iload 4, 2) := by decide +kernel
theorem dX0_add_24 : decode cX0_add 24 = .ok (.invokevirtual 48, 3) := by decide +kernel
theorem dX0_add_27 : decode cX0_add 27 = .ok (.ifCond .ne 28, 3) := by decide +kernel
theorem dX0_add_30 : decode cX0_add 30 = .ok (.aload_n 0, 1) := by decide +kernel
theorem dX0_add_31 : decode cX0_add 31 = .ok (.dup, 1) := by decide +kernel
theorem dX0_add_32 : decode cX0_add 32 = .ok (.getfield 36, 3) := by decide +kernel
theorem dX0_add_35 : decode cX0_add 35 = .ok (.iconst 1, 1) := by decide +kernel
theorem dX0_add_36 : decode cX0_add 36 = .ok (.iload 4, 2) := by decide +kernel
theorem dX0_add_38 : decode cX0_add 38 = .ok (.ishl, 1) := by decide +kernel
theorem dX0_add_39 : decode cX0_add 39 = .ok (.ior, 1) := by decide +kernel
theorem dX0_add_40 : decode cX0_add 40 = .ok (.putfield 36, 3) := by decide +kernel
theorem dX0_add_43 : decode cX0_add 43 = .ok (.aload_n 0, 1) := by decide +kernel
theorem dX0_add_44 : decode cX0_add 44 = .ok (.iload 4, 2) := by decide +kernel
theorem dX0_add_46 : decode cX0_add 46 = .ok (.iload_n 1, 1) := by decide +kernel
theorem dX0_add_47 : decode cX0_add 47 = .ok (.iload_n 2, 1) := by decide +kernel
theorem dX0_add_48 : decode cX0_add 48 = .ok (.iload_n 3, 1) := by decide +kernel
theorem dX0_add_49 : decode cX0_add 49 = .ok (.invokevirtual 52, 3) := by decide +kernel
theorem dX0_add_52 : decode cX0_add 52 = .ok (.iload 4, 2) := by decide +kernel
theorem dX0_add_54 : decode cX0_add 54 = .ok (.ireturn, 1) := by decide +kernel
theorem dX0_add_55 : decode cX0_add 55 = .ok (.iinc 4 1, 3) := by decide +kernel
theorem dX0_add_58 : decode cX0_add 58 = .ok (.goto (-44), 3) := by decide +kernel
theorem dX0_add_61 : decode cX0_add 61 = .ok (.bipush (-2), 2) := by decide +kernel
theorem dX0_add_63 : decode cX0_add 63 = .ok (.ireturn, 1) := by decide +kernel
abbrev cX0_numbersOk : ByteArray := prog_1_method_3_code
def yX0_numbersOk : MethodName := ⟨RX0, "numbersOk", "(III)Z"⟩
theorem dX0_numbersOk_0 : decode cX0_numbersOk 0 = .ok (.iload_n 0, 1) := by decide +kernel
theorem dX0_numbersOk_1 : decode cX0_numbersOk 1 = .ok (.ifCond .lt 34, 3) := by decide +kernel
theorem dX0_numbersOk_4 : decode cX0_numbersOk 4 = .ok (.iload_n 0, 1) := by decide +kernel
theorem dX0_numbersOk_5 : decode cX0_numbersOk 5 = .ok (.bipush 40, 2) := by decide +kernel
theorem dX0_numbersOk_7 : decode cX0_numbersOk 7 = .ok (.if_icmp .gt 28, 3) := by decide +kernel
theorem dX0_numbersOk_10 : decode cX0_numbersOk 10 = .ok (.iload_n 1, 1) := by decide +kernel
theorem dX0_numbersOk_11 : decode cX0_numbersOk 11 = .ok (.iconst 1, 1) := by decide +kernel
theorem dX0_numbersOk_12 : decode cX0_numbersOk 12 = .ok (.if_icmp .lt 23, 3) := by decide +kernel
theorem dX0_numbersOk_15 : decode cX0_numbersOk 15 = .ok (.iload_n 1, 1) := by decide +kernel
theorem dX0_numbersOk_16 : decode cX0_numbersOk 16 = .ok (.bipush 12, 2) := by decide +kernel
theorem dX0_numbersOk_18 : decode cX0_numbersOk 18 = .ok (.if_icmp .gt 17, 3) := by decide +kernel
theorem dX0_numbersOk_21 : decode cX0_numbersOk 21 = .ok (.iload_n 2, 1) := by decide +kernel
theorem dX0_numbersOk_22 : decode cX0_numbersOk 22 = .ok (.ifCond .lt 13, 3) := by decide +kernel
theorem dX0_numbersOk_25 : decode cX0_numbersOk 25 = .ok (.iload_n 2, 1) := by decide +kernel
theorem dX0_numbersOk_26 : decode cX0_numbersOk 26 = .ok (.bipush 40, 2) := by decide +kernel
theorem dX0_numbersOk_28 : decode cX0_numbersOk 28 = .ok (.if_icmp .gt 7, 3) := by decide +kernel
theorem dX0_numbersOk_31 : decode cX0_numbersOk 31 = .ok (.iconst 1, 1) := by decide +kernel
theorem dX0_numbersOk_32 : decode cX0_numbersOk 32 = .ok (.goto 4, 3) := by decide +kernel
theorem dX0_numbersOk_35 : decode cX0_numbersOk 35 = .ok (.iconst 0, 1) := by decide +kernel
theorem dX0_numbersOk_36 : decode cX0_numbersOk 36 = .ok (.ireturn, 1) := by decide +kernel
abbrev cX0_has : ByteArray := prog_1_method_2_code
def yX0_has : MethodName := ⟨RX0, "has", "(I)Z"⟩
theorem dX0_has_0 : decode cX0_has 0 = .ok (.iload_n 1, 1) := by decide +kernel
theorem dX0_has_1 : decode cX0_has 1 = .ok (.ifCond .lt 24, 3) := by decide +kernel
theorem dX0_has_4 : decode cX0_has 4 = .ok (.iload_n 1, 1) := by decide +kernel
theorem dX0_has_5 : decode cX0_has 5 = .ok (.bipush 6, 2) := by decide +kernel
theorem dX0_has_7 : decode cX0_has 7 = .ok (.if_icmp .ge 18, 3) := by decide +kernel
theorem dX0_has_10 : decode cX0_has 10 = .ok (.aload_n 0, 1) := by decide +kernel
theorem dX0_has_11 : decode cX0_has 11 = .ok (.getfield 36, 3) := by decide +kernel
theorem dX0_has_14 : decode cX0_has 14 = .ok (.iload_n 1, 1) := by decide +kernel
theorem dX0_has_15 : decode cX0_has 15 = .ok (.ishr, 1) := by decide +kernel
theorem dX0_has_16 : decode cX0_has 16 = .ok (.iconst 1, 1) := by decide +kernel
theorem dX0_has_17 : decode cX0_has 17 = .ok (.iand, 1) := by decide +kernel
theorem dX0_has_18 : decode cX0_has 18 = .ok (.ifCond .eq 7, 3) := by decide +kernel
theorem dX0_has_21 : decode cX0_has 21 = .ok (.iconst 1, 1) := by decide +kernel
theorem dX0_has_22 : decode cX0_has 22 = .ok (.goto 4, 3) := by decide +kernel
theorem dX0_has_25 : decode cX0_has 25 = .ok (.iconst 0, 1) := by decide +kernel
theorem dX0_has_26 : decode cX0_has 26 = .ok (.ireturn, 1) := by decide +kernel
abbrev cX0_put : ByteArray := prog_1_method_4_code
def yX0_put : MethodName := ⟨RX0, "put", "(IIII)V"⟩
theorem dX0_put_0 : decode cX0_put 0 = .ok (.aload_n 0, 1) := by decide +kernel
theorem dX0_put_1 : decode cX0_put 1 = .ok (.getfield 7, 3) := by decide +kernel
theorem dX0_put_4 : decode cX0_put 4 = .ok (.iload_n 1, 1) := by decide +kernel
theorem dX0_put_5 : decode cX0_put 5 = .ok (.iload_n 2, 1) := by decide +kernel
theorem dX0_put_6 : decode cX0_put 6 = .ok (.i2s, 1) := by decide +kernel
theorem dX0_put_7 : decode cX0_put 7 = .ok (.sastore, 1) := by decide +kernel
theorem dX0_put_8 : decode cX0_put 8 = .ok (.aload_n 0, 1) := by decide +kernel
theorem dX0_put_9 : decode cX0_put 9 = .ok (.getfield 13, 3) := by decide +kernel
theorem dX0_put_12 : decode cX0_put 12 = .ok (.iload_n 1, 1) := by decide +kernel
theorem dX0_put_13 : decode cX0_put 13 = .ok (.iload_n 3, 1) := by decide +kernel
theorem dX0_put_14 : decode cX0_put 14 = .ok (.i2s, 1) := by decide +kernel
theorem dX0_put_15 : decode cX0_put 15 = .ok (.sastore, 1) := by decide +kernel
theorem dX0_put_16 : decode cX0_put 16 = .ok (.aload_n 0, 1) := by decide +kernel
theorem dX0_put_17 : decode cX0_put 17 = .ok (.getfield 16, 3) := by decide +kernel
theorem dX0_put_20 : decode cX0_put 20 = .ok (.iload_n 1, 1) := by decide +kernel
theorem dX0_put_21 : decode cX0_put 21 = .ok (.iload 4, 2) := by decide +kernel
theorem dX0_put_23 : decode cX0_put 23 = .ok (.i2s, 1) := by decide +kernel
theorem dX0_put_24 : decode cX0_put 24 = .ok (.sastore, 1) := by decide +kernel
theorem dX0_put_25 : decode cX0_put 25 = .ok (.aload_n 0, 1) := by decide +kernel
theorem dX0_put_26 : decode cX0_put 26 = .ok (.iconst 0, 1) := by decide +kernel
theorem dX0_put_27 : decode cX0_put 27 = .ok (.putfield 40, 3) := by decide +kernel
theorem dX0_put_30 : decode cX0_put 30 = .ok (.return_, 1) := by decide +kernel
abbrev cX0_remove : ByteArray := prog_1_method_6_code
def yX0_remove : MethodName := ⟨RX0, "remove", "(I)Z"⟩
theorem dX0_remove_0 : decode cX0_remove 0 = .ok (.aload_n 0, 1) := by decide +kernel
theorem dX0_remove_1 : decode cX0_remove 1 = .ok (.iload_n 1, 1) := by decide +kernel
theorem dX0_remove_2 : decode cX0_remove 2 = .ok (.invokevirtual 48, 3) := by decide +kernel
theorem dX0_remove_5 : decode cX0_remove 5 = .ok (.ifCond .ne 5, 3) := by decide +kernel
theorem dX0_remove_8 : decode cX0_remove 8 = .ok (.iconst 0, 1) := by decide +kernel
theorem dX0_remove_9 : decode cX0_remove 9 = .ok (.ireturn, 1) := by decide +kernel
theorem dX0_remove_10 : decode cX0_remove 10 = .ok (.aload_n 0, 1) := by decide +kernel
theorem dX0_remove_11 : decode cX0_remove 11 = .ok (.dup, 1) := by decide +kernel
theorem dX0_remove_12 : decode cX0_remove 12 = .ok (.getfield 36, 3) := by decide +kernel
theorem dX0_remove_15 : decode cX0_remove 15 = .ok (.iconst 1, 1) := by decide +kernel
theorem dX0_remove_16 : decode cX0_remove 16 = .ok (.iload_n 1, 1) := by decide +kernel
theorem dX0_remove_17 : decode cX0_remove 17 = .ok (.ishl, 1) := by decide +kernel
theorem dX0_remove_18 : decode cX0_remove 18 = .ok (.iconst (-1), 1) := by decide +kernel
theorem dX0_remove_19 : decode cX0_remove 19 = .ok (.ixor, 1) := by decide +kernel
theorem dX0_remove_20 : decode cX0_remove 20 = .ok (.iand, 1) := by decide +kernel
theorem dX0_remove_21 : decode cX0_remove 21 = .ok (.putfield 36, 3) := by decide +kernel
theorem dX0_remove_24 : decode cX0_remove 24 = .ok (.aload_n 0, 1) := by decide +kernel
theorem dX0_remove_25 : decode cX0_remove 25 = .ok (.iconst 0, 1) := by decide +kernel
theorem dX0_remove_26 : decode cX0_remove 26 = .ok (.putfield 40, 3) := by decide +kernel
theorem dX0_remove_29 : decode cX0_remove 29 = .ok (.iconst 1, 1) := by decide +kernel
theorem dX0_remove_30 : decode cX0_remove 30 = .ok (.ireturn, 1) := by decide +kernel
abbrev cX0_change : ByteArray := prog_1_method_7_code
def yX0_change : MethodName := ⟨RX0, "change", "(IIII)Z"⟩
theorem dX0_change_0 : decode cX0_change 0 = .ok (.aload_n 0, 1) := by decide +kernel
theorem dX0_change_1 : decode cX0_change 1 = .ok (.iload_n 1, 1) := by decide +kernel
theorem dX0_change_2 : decode cX0_change 2 = .ok (.invokevirtual 48, 3) := by decide +kernel
theorem dX0_change_5 : decode cX0_change 5 = .ok (.ifCond .eq 13, 3) := by decide +kernel
theorem dX0_change_8 : decode cX0_change 8 = .ok (.iload_n 2, 1) := by decide +kernel
theorem dX0_change_9 : decode cX0_change 9 = .ok (.iload_n 3, 1) := by decide +kernel
theorem dX0_change_10 : decode cX0_change 10 = .ok (.iload 4, 2) := by decide +kernel
theorem dX0_change_12 : decode cX0_change 12 = .ok (.invokestatic 44, 3) := by decide +kernel
theorem dX0_change_15 : decode cX0_change 15 = .ok (.ifCond .ne 5, 3) := by decide +kernel
theorem dX0_change_18 : decode cX0_change 18 = .ok (.iconst 0, 1) := by decide +kernel
theorem dX0_change_19 : decode cX0_change 19 = .ok (.ireturn, 1) := by decide +kernel
theorem dX0_change_20 : decode cX0_change 20 = .ok (.aload_n 0, 1) := by decide +kernel
theorem dX0_change_21 : decode cX0_change 21 = .ok (.iload_n 1, 1) := by decide +kernel
theorem dX0_change_22 : decode cX0_change 22 = .ok (.iload_n 2, 1) := by decide +kernel
theorem dX0_change_23 : decode cX0_change 23 = .ok (.iload_n 3, 1) := by decide +kernel
theorem dX0_change_24 : decode cX0_change 24 = .ok (.iload 4, 2) := by decide +kernel
theorem dX0_change_26 : decode cX0_change 26 = .ok (.invokevirtual 52, 3) := by decide +kernel
theorem dX0_change_29 : decode cX0_change 29 = .ok (.iconst 1, 1) := by decide +kernel
theorem dX0_change_30 : decode cX0_change 30 = .ok (.ireturn, 1) := by decide +kernel
abbrev cX0_jobs : ByteArray := prog_1_method_8_code
def yX0_jobs : MethodName := ⟨RX0, "jobs", "()I"⟩
theorem dX0_jobs_0 : decode cX0_jobs 0 = .ok (.aload_n 0, 1) := by decide +kernel
theorem dX0_jobs_1 : decode cX0_jobs 1 = .ok (.getfield 36, 3) := by decide +kernel
theorem dX0_jobs_4 : decode cX0_jobs 4 = .ok (.ireturn, 1) := by decide +kernel
abbrev cX0_part : ByteArray := prog_1_method_9_code
def yX0_part : MethodName := ⟨RX0, "part", "(II)I"⟩
theorem dX0_part_0 : decode cX0_part 0 = .ok (.aload_n 0, 1) := by decide +kernel
theorem dX0_part_1 : decode cX0_part 1 = .ok (.iload_n 1, 1) := by decide +kernel
theorem dX0_part_2 : decode cX0_part 2 = .ok (.invokevirtual 48, 3) := by decide +kernel
theorem dX0_part_5 : decode cX0_part 5 = .ok (.ifCond .eq 12, 3) := by decide +kernel
theorem dX0_part_8 : decode cX0_part 8 = .ok (.iload_n 2, 1) := by decide +kernel
theorem dX0_part_9 : decode cX0_part 9 = .ok (.ifCond .lt 8, 3) := by decide +kernel
theorem dX0_part_12 : decode cX0_part 12 = .ok (.iload_n 2, 1) := by decide +kernel
theorem dX0_part_13 : decode cX0_part 13 = .ok (.iconst 2, 1) := by decide +kernel
theorem dX0_part_14 : decode cX0_part 14 = .ok (.if_icmp .le 5, 3) := by decide +kernel
theorem dX0_part_17 : decode cX0_part 17 = .ok (.iconst (-1), 1) := by decide +kernel
theorem dX0_part_18 : decode cX0_part 18 = .ok (.ireturn, 1) := by decide +kernel
theorem dX0_part_19 : decode cX0_part 19 = .ok (.iload_n 2, 1) := by decide +kernel
theorem dX0_part_20 : decode cX0_part 20 = .ok (.ifCond .ne 10, 3) := by decide +kernel
theorem dX0_part_23 : decode cX0_part 23 = .ok (.aload_n 0, 1) := by decide +kernel
theorem dX0_part_24 : decode cX0_part 24 = .ok (.getfield 7, 3) := by decide +kernel
theorem dX0_part_27 : decode cX0_part 27 = .ok (.iload_n 1, 1) := by decide +kernel
theorem dX0_part_28 : decode cX0_part 28 = .ok (.saload, 1) := by decide +kernel
theorem dX0_part_29 : decode cX0_part 29 = .ok (.ireturn, 1) := by decide +kernel
theorem dX0_part_30 : decode cX0_part 30 = .ok (.iload_n 2, 1) := by decide +kernel
theorem dX0_part_31 : decode cX0_part 31 = .ok (.iconst 1, 1) := by decide +kernel
theorem dX0_part_32 : decode cX0_part 32 = .ok (.if_icmp .ne 12, 3) := by decide +kernel
theorem dX0_part_35 : decode cX0_part 35 = .ok (.aload_n 0, 1) := by decide +kernel
theorem dX0_part_36 : decode cX0_part 36 = .ok (.getfield 13, 3) := by decide +kernel
theorem dX0_part_39 : decode cX0_part 39 = .ok (.iload_n 1, 1) := by decide +kernel
theorem dX0_part_40 : decode cX0_part 40 = .ok (.saload, 1) := by decide +kernel
theorem dX0_part_41 : decode cX0_part 41 = .ok (.goto 9, 3) := by decide +kernel
theorem dX0_part_44 : decode cX0_part 44 = .ok (.aload_n 0, 1) := by decide +kernel
theorem dX0_part_45 : decode cX0_part 45 = .ok (.getfield 16, 3) := by decide +kernel
theorem dX0_part_48 : decode cX0_part 48 = .ok (.iload_n 1, 1) := by decide +kernel
theorem dX0_part_49 : decode cX0_part 49 = .ok (.saload, 1) := by decide +kernel
theorem dX0_part_50 : decode cX0_part 50 = .ok (.ireturn, 1) := by decide +kernel
abbrev cX0_least : ByteArray := prog_1_method_22_code
def yX0_least : MethodName := ⟨RX0, "least", "()I"⟩
theorem dX0_least_0 : decode cX0_least 0 = .ok (.aload_n 0, 1) := by decide +kernel
theorem dX0_least_1 : decode cX0_least 1 = .ok (.invokevirtual 96, 3) := by decide +kernel
theorem dX0_least_4 : decode cX0_least 4 = .ok (.aload_n 0, 1) := by decide +kernel
theorem dX0_least_5 : decode cX0_least 5 = .ok (.getfield 90, 3) := by decide +kernel
theorem dX0_least_8 : decode cX0_least 8 = .ok (.ireturn, 1) := by decide +kernel
abbrev cX0_learn : ByteArray := prog_1_method_19_code
def yX0_learn : MethodName := ⟨RX0, "learn", "()V"⟩
theorem dX0_learn_0 : decode cX0_learn 0 = .ok (.aload_n 0, 1) := by decide +kernel
theorem dX0_learn_1 : decode cX0_learn 1 = .ok (.getfield 40, 3) := by decide +kernel
theorem dX0_learn_4 : decode cX0_learn 4 = .ok (.ifCond .eq 4, 3) := by decide +kernel
theorem dX0_learn_7 : decode cX0_learn 7 = .ok (.return_, 1) := by decide +kernel
theorem dX0_learn_8 : decode cX0_learn 8 = .ok (.aload_n 0, 1) := by decide +kernel
theorem dX0_learn_9 : decode cX0_learn 9 = .ok (.iconst 1, 1) := by decide +kernel
theorem dX0_learn_10 : decode cX0_learn 10 = .ok (.putfield 40, 3) := by decide +kernel
theorem dX0_learn_13 : decode cX0_learn 13 = .ok (.aload_n 0, 1) := by decide +kernel
theorem dX0_learn_14 : decode cX0_learn 14 = .ok (.invokevirtual 83, 3) := by decide +kernel
theorem dX0_learn_17 : decode cX0_learn 17 = .ok (.aload_n 0, 1) := by decide +kernel
theorem dX0_learn_18 : decode cX0_learn 18 = .ok (.aload_n 0, 1) := by decide +kernel
theorem dX0_learn_19 : decode cX0_learn 19 = .ok (.iconst 0, 1) := by decide +kernel
theorem dX0_learn_20 : decode cX0_learn 20 = .ok (.iconst (-1), 1) := by decide +kernel
theorem dX0_learn_21 : decode cX0_learn 21 = .ok (.iconst (-1), 1) := by decide +kernel
theorem dX0_learn_22 : decode cX0_learn 22 = .ok (.invokevirtual 86, 3) := by decide +kernel
theorem dX0_learn_25 : decode cX0_learn 25 = .ok (.putfield 90, 3) := by decide +kernel
theorem dX0_learn_28 : decode cX0_learn 28 = .ok (.aload_n 0, 1) := by decide +kernel
theorem dX0_learn_29 : decode cX0_learn 29 = .ok (.invokevirtual 63, 3) := by decide +kernel
theorem dX0_learn_32 : decode cX0_learn 32 = .ok (.istore_n 1, 1) := by decide +kernel
theorem dX0_learn_33 : decode cX0_learn 33 = .ok (.iconst 0, 1) := by decide +kernel
theorem dX0_learn_34 : decode cX0_learn 34 = .ok (.istore_n 2, 1) := by decide +kernel
theorem dX0_learn_35 : decode cX0_learn 35 = .ok (.iconst 0, 1) := by decide +kernel
theorem dX0_learn_36 : decode cX0_learn 36 = .ok (.istore_n 3, 1) := by decide +kernel
theorem dX0_learn_37 : decode cX0_learn 37 = .ok (.iload_n 3, 1) := by decide +kernel
theorem dX0_learn_38 : decode cX0_learn 38 = .ok (.iload_n 1, 1) := by decide +kernel
theorem dX0_learn_39 : decode cX0_learn 39 = .ok (.if_icmp .ge 40, 3) := by decide +kernel
theorem dX0_learn_42 : decode cX0_learn 42 = .ok (.aload_n 0, 1) := by decide +kernel
theorem dX0_learn_43 : decode cX0_learn 43 = .ok (.iload_n 3, 1) := by decide +kernel
theorem dX0_learn_44 : decode cX0_learn 44 = .ok (.iload_n 2, 1) := by decide +kernel
theorem dX0_learn_45 : decode cX0_learn 45 = .ok (.invokevirtual 93, 3) := by decide +kernel
theorem dX0_learn_48 : decode cX0_learn 48 = .ok (.istore 4, 2) := by decide +kernel
theorem dX0_learn_50 : decode cX0_learn 50 = .ok (.aload_n 0, 1) := by decide +kernel
theorem dX0_learn_51 : decode cX0_learn 51 = .ok (.getfield 33, 3) := by decide +kernel
theorem dX0_learn_54 : decode cX0_learn 54 = .ok (.iload_n 3, 1) := by decide +kernel
theorem dX0_learn_55 : decode cX0_learn 55 = .ok (.iload 4, 2) := by decide +kernel
theorem dX0_learn_57 : decode cX0_learn 57 = .ok (.i2b, 1) := by decide +kernel
theorem dX0_learn_58 : decode cX0_learn 58 = .ok (.bastore, 1) := by decide +kernel
theorem dX0_learn_59 : decode cX0_learn 59 = .ok (.iload_n 2, 1) := by decide +kernel
theorem dX0_learn_60 : decode cX0_learn 60 = .ok (.iconst 1, 1) := by decide +kernel
theorem dX0_learn_61 : decode cX0_learn 61 = .ok (.iload 4, 2) := by decide +kernel
theorem dX0_learn_63 : decode cX0_learn 63 = .ok (.ishl, 1) := by decide +kernel
theorem dX0_learn_64 : decode cX0_learn 64 = .ok (.ior, 1) := by decide +kernel
theorem dX0_learn_65 : decode cX0_learn 65 = .ok (.istore_n 2, 1) := by decide +kernel
theorem dX0_learn_66 : decode cX0_learn 66 = .ok (.aload_n 0, 1) := by decide +kernel
theorem dX0_learn_67 : decode cX0_learn 67 = .ok (.iload_n 3, 1) := by decide +kernel
theorem dX0_learn_68 : decode cX0_learn 68 = .ok (.iload 4, 2) := by decide +kernel
theorem dX0_learn_70 : decode cX0_learn 70 = .ok (.invokevirtual 72, 3) := by decide +kernel
theorem dX0_learn_73 : decode cX0_learn 73 = .ok (.iinc 3 1, 3) := by decide +kernel
theorem dX0_learn_76 : decode cX0_learn 76 = .ok (.goto (-39), 3) := by decide +kernel
theorem dX0_learn_79 : decode cX0_learn 79 = .ok (.return_, 1) := by decide +kernel
abbrev cX0_begin : ByteArray := prog_1_method_18_code
def yX0_begin : MethodName := ⟨RX0, "begin", "()V"⟩
theorem dX0_begin_0 : decode cX0_begin 0 = .ok (.aload_n 0, 1) := by decide +kernel
theorem dX0_begin_1 : decode cX0_begin 1 = .ok (.getfield 26, 3) := by decide +kernel
theorem dX0_begin_4 : decode cX0_begin 4 = .ok (.iconst 0, 1) := by decide +kernel
theorem dX0_begin_5 : decode cX0_begin 5 = .ok (.iconst 0, 1) := by decide +kernel
theorem dX0_begin_6 : decode cX0_begin 6 = .ok (.iastore, 1) := by decide +kernel
theorem dX0_begin_7 : decode cX0_begin 7 = .ok (.aload_n 0, 1) := by decide +kernel
theorem dX0_begin_8 : decode cX0_begin 8 = .ok (.getfield 30, 3) := by decide +kernel
theorem dX0_begin_11 : decode cX0_begin 11 = .ok (.iconst 0, 1) := by decide +kernel
theorem dX0_begin_12 : decode cX0_begin 12 = .ok (.iconst 0, 1) := by decide +kernel
theorem dX0_begin_13 : decode cX0_begin 13 = .ok (.iastore, 1) := by decide +kernel
theorem dX0_begin_14 : decode cX0_begin 14 = .ok (.return_, 1) := by decide +kernel
abbrev cX0_search : ByteArray := prog_1_method_15_code
def yX0_search : MethodName := ⟨RX0, "search", "(III)I"⟩
theorem dX0_search_0 : decode cX0_search 0 = .ok (.aload_n 0, 1) := by decide +kernel
theorem dX0_search_1 : decode cX0_search 1 = .ok (.invokevirtual 63, 3) := by decide +kernel
theorem dX0_search_4 : decode cX0_search 4 = .ok (.istore 4, 2) := by decide +kernel
theorem dX0_search_6 : decode cX0_search 6 = .ok (.iconst 0, 1) := by decide +kernel
theorem dX0_search_7 : decode cX0_search 7 = .ok (.istore 5, 2) := by decide +kernel
theorem dX0_search_9 : decode cX0_search 9 = .ok (.iconst 0, 1) := by decide +kernel
theorem dX0_search_10 : decode cX0_search 10 = .ok (.istore 6, 2) := by decide +kernel
theorem dX0_search_12 : decode cX0_search 12 = .ok (.iload 6, 2) := by decide +kernel
theorem dX0_search_14 : decode cX0_search 14 = .ok (.iload_n 1, 1) := by decide +kernel
theorem dX0_search_15 : decode cX0_search 15 = .ok (.if_icmp .ge 23, 3) := by decide +kernel
theorem dX0_search_18 : decode cX0_search 18 = .ok (.iload 5, 2) := by decide +kernel
theorem dX0_search_20 : decode cX0_search 20 = .ok (.iconst 1, 1) := by decide +kernel
theorem dX0_search_21 : decode cX0_search 21 = .ok (.aload_n 0, 1) := by decide +kernel
theorem dX0_search_22 : decode cX0_search 22 = .ok (.getfield 22, 3) := by decide +kernel
theorem dX0_search_25 : decode cX0_search 25 = .ok (.iload 6, 2) := by decide +kernel
theorem dX0_search_27 : decode cX0_search 27 = .ok (.baload, 1) := by decide +kernel
theorem dX0_search_28 : decode cX0_search 28 = .ok (.ishl, 1) := by decide +kernel
theorem dX0_search_29 : decode cX0_search 29 = .ok (.ior, 1) := by decide +kernel
theorem dX0_search_30 : decode cX0_search 30 = .ok (.istore 5, 2) := by decide +kernel
theorem dX0_search_32 : decode cX0_search 32 = .ok (.iinc 6 1, 3) := by decide +kernel
theorem dX0_search_35 : decode cX0_search 35 = .ok (.goto (-23), 3) := by decide +kernel
theorem dX0_search_38 : decode cX0_search 38 = .ok (.iload_n 1, 1) := by decide +kernel
theorem dX0_search_39 : decode cX0_search 39 = .ok (.iload 4, 2) := by decide +kernel
theorem dX0_search_41 : decode cX0_search 41 = .ok (.if_icmp .ne 12, 3) := by decide +kernel
theorem dX0_search_44 : decode cX0_search 44 = .ok (.aload_n 0, 1) := by decide +kernel
theorem dX0_search_45 : decode cX0_search 45 = .ok (.getfield 30, 3) := by decide +kernel
theorem dX0_search_48 : decode cX0_search 48 = .ok (.iload_n 1, 1) := by decide +kernel
theorem dX0_search_49 : decode cX0_search 49 = .ok (.iaload, 1) := by decide +kernel
theorem dX0_search_50 : decode cX0_search 50 = .ok (.goto 5, 3) := by decide +kernel
theorem dX0_search_53 : decode cX0_search 53 = .ok (.ldc 67, 2) := by decide +kernel
theorem dX0_search_55 : decode cX0_search 55 = .ok (.istore 6, 2) := by decide +kernel
theorem dX0_search_57 : decode cX0_search 57 = .ok (.iload_n 1, 1) := by decide +kernel
theorem dX0_search_58 : decode cX0_search 58 = .ok (.istore 7, 2) := by decide +kernel
theorem dX0_search_60 : decode cX0_search 60 = .ok (.aload_n 0, 1) := by decide +kernel
theorem dX0_search_61 : decode cX0_search 61 = .ok (.getfield 22, 3) := by decide +kernel
theorem dX0_search_64 : decode cX0_search 64 = .ok (.iload 7, 2) := by decide +kernel
theorem dX0_search_66 : decode cX0_search 66 = .ok (.iconst (-1), 1) := by decide +kernel
theorem dX0_search_67 : decode cX0_search 67 = .ok (.bastore, 1) := by decide +kernel
theorem dX0_search_68 : decode cX0_search 68 = .ok (.iconst 0, 1) := by decide +kernel
theorem dX0_search_69 : decode cX0_search 69 = .ok (.istore 8, 2) := by decide +kernel
theorem dX0_search_71 : decode cX0_search 71 = .ok (.iload 8, 2) := by decide +kernel
theorem dX0_search_73 : decode cX0_search 73 = .ok (.sipush 4096, 3) := by decide +kernel
theorem dX0_search_76 : decode cX0_search 76 = .ok (.if_icmp .ge 157, 3) := by decide +kernel
theorem dX0_search_79 : decode cX0_search 79 = .ok (.iload 7, 2) := by decide +kernel
theorem dX0_search_81 : decode cX0_search 81 = .ok (.iload_n 1, 1) := by decide +kernel
theorem dX0_search_82 : decode cX0_search 82 = .ok (.if_icmp .lt 151, 3) := by decide +kernel
theorem dX0_search_85 : decode cX0_search 85 = .ok (.iload_n 1, 1) := by decide +kernel
theorem dX0_search_86 : decode cX0_search 86 = .ok (.iload 4, 2) := by decide +kernel
theorem dX0_search_88 : decode cX0_search 88 = .ok (.if_icmp .ge 145, 3) := by decide +kernel
theorem dX0_search_91 : decode cX0_search 91 = .ok (.aload_n 0, 1) := by decide +kernel
theorem dX0_search_92 : decode cX0_search 92 = .ok (.aload_n 0, 1) := by decide +kernel
theorem dX0_search_93 : decode cX0_search 93 = .ok (.getfield 22, 3) := by decide +kernel
theorem dX0_search_96 : decode cX0_search 96 = .ok (.iload 7, 2) := by decide +kernel
theorem dX0_search_98 : decode cX0_search 98 = .ok (.baload, 1) := by decide +kernel
theorem dX0_search_99 : decode cX0_search 99 = .ok (.iconst 1, 1) := by decide +kernel
theorem dX0_search_100 : decode cX0_search 100 = .ok (.iadd, 1) := by decide +kernel
theorem dX0_search_101 : decode cX0_search 101 = .ok (.iload 5, 2) := by decide +kernel
theorem dX0_search_103 : decode cX0_search 103 = .ok (.iload_n 2, 1) := by decide +kernel
theorem dX0_search_104 : decode cX0_search 104 = .ok (.iload_n 3, 1) := by decide +kernel
theorem dX0_search_105 : decode cX0_search 105 = .ok (.invokevirtual 68, 3) := by decide +kernel
theorem dX0_search_108 : decode cX0_search 108 = .ok (.istore 9, 2) := by decide +kernel
theorem dX0_search_110 : decode cX0_search 110 = .ok (.iload 9, 2) := by decide +kernel
theorem dX0_search_112 : decode cX0_search 112 = .ok (.ifCond .ge 31, 3) := by decide +kernel
theorem dX0_search_115 : decode cX0_search 115 = .ok (.iinc 7 (-1), 3) := by decide +kernel
theorem dX0_search_118 : decode cX0_search 118 = .ok (.iload 7, 2) := by decide +kernel
theorem dX0_search_120 : decode cX0_search 120 = .ok (.iload_n 1, 1) := by decide +kernel
theorem dX0_search_121 : decode cX0_search 121 = .ok (.if_icmp .lt 106, 3) := by decide +kernel
theorem dX0_search_124 : decode cX0_search 124 = .ok (.iload 5, 2) := by decide +kernel
theorem dX0_search_126 : decode cX0_search 126 = .ok (.iconst 1, 1) := by decide +kernel
theorem dX0_search_127 : decode cX0_search 127 = .ok (.aload_n 0, 1) := by decide +kernel
theorem dX0_search_128 : decode cX0_search 128 = .ok (.getfield 22, 3) := by decide +kernel
theorem dX0_search_131 : decode cX0_search 131 = .ok (.iload 7, 2) := by decide +kernel
theorem dX0_search_133 : decode cX0_search 133 = .ok (.baload, 1) := by decide +kernel
theorem dX0_search_134 : decode cX0_search 134 = .ok (.ishl, 1) := by decide +kernel
theorem dX0_search_135 : decode cX0_search 135 = .ok (.iconst (-1), 1) := by decide +kernel
theorem dX0_search_136 : decode cX0_search 136 = .ok (.ixor, 1) := by decide +kernel
theorem dX0_search_137 : decode cX0_search 137 = .ok (.iand, 1) := by decide +kernel
theorem dX0_search_138 : decode cX0_search 138 = .ok (.istore 5, 2) := by decide +kernel
theorem dX0_search_140 : decode cX0_search 140 = .ok (.goto 87, 3) := by decide +kernel
theorem dX0_search_143 : decode cX0_search 143 = .ok (.aload_n 0, 1) := by decide +kernel
theorem dX0_search_144 : decode cX0_search 144 = .ok (.iload 7, 2) := by decide +kernel
theorem dX0_search_146 : decode cX0_search 146 = .ok (.iload 9, 2) := by decide +kernel
theorem dX0_search_148 : decode cX0_search 148 = .ok (.invokevirtual 72, 3) := by decide +kernel
theorem dX0_search_151 : decode cX0_search 151 = .ok (.aload_n 0, 1) := by decide +kernel
theorem dX0_search_152 : decode cX0_search 152 = .ok (.getfield 36, 3) := by decide +kernel
theorem dX0_search_155 : decode cX0_search 155 = .ok (.iload 5, 2) := by decide +kernel
theorem dX0_search_157 : decode cX0_search 157 = .ok (.iconst (-1), 1) := by decide +kernel
theorem dX0_search_158 : decode cX0_search 158 = .ok (.ixor, 1) := by decide +kernel
theorem dX0_search_159 : decode cX0_search 159 = .ok (.iand, 1) := by decide +kernel
theorem dX0_search_160 : decode cX0_search 160 = .ok (.iconst 1, 1) := by decide +kernel
theorem dX0_search_161 : decode cX0_search 161 = .ok (.iload 9, 2) := by decide +kernel
theorem dX0_search_163 : decode cX0_search 163 = .ok (.ishl, 1) := by decide +kernel
theorem dX0_search_164 : decode cX0_search 164 = .ok (.iconst (-1), 1) := by decide +kernel
theorem dX0_search_165 : decode cX0_search 165 = .ok (.ixor, 1) := by decide +kernel
theorem dX0_search_166 : decode cX0_search 166 = .ok (.iand, 1) := by decide +kernel
theorem dX0_search_167 : decode cX0_search 167 = .ok (.istore 10, 2) := by decide +kernel
theorem dX0_search_169 : decode cX0_search 169 = .ok (.aload_n 0, 1) := by decide +kernel
theorem dX0_search_170 : decode cX0_search 170 = .ok (.iload 7, 2) := by decide +kernel
theorem dX0_search_172 : decode cX0_search 172 = .ok (.iconst 1, 1) := by decide +kernel
theorem dX0_search_173 : decode cX0_search 173 = .ok (.iadd, 1) := by decide +kernel
theorem dX0_search_174 : decode cX0_search 174 = .ok (.iload 10, 2) := by decide +kernel
theorem dX0_search_176 : decode cX0_search 176 = .ok (.invokevirtual 76, 3) := by decide +kernel
theorem dX0_search_179 : decode cX0_search 179 = .ok (.istore 11, 2) := by decide +kernel
theorem dX0_search_181 : decode cX0_search 181 = .ok (.iload 11, 2) := by decide +kernel
theorem dX0_search_183 : decode cX0_search 183 = .ok (.iload 6, 2) := by decide +kernel
theorem dX0_search_185 : decode cX0_search 185 = .ok (.if_icmp .ge 15, 3) := by decide +kernel
theorem dX0_search_188 : decode cX0_search 188 = .ok (.iload 10, 2) := by decide +kernel
theorem dX0_search_190 : decode cX0_search 190 = .ok (.ifCond .ne 10, 3) := by decide +kernel
theorem dX0_search_193 : decode cX0_search 193 = .ok (.iload 11, 2) := by decide +kernel
theorem dX0_search_195 : decode cX0_search 195 = .ok (.istore 6, 2) := by decide +kernel
theorem dX0_search_197 : decode cX0_search 197 = .ok (.goto 30, 3) := by decide +kernel
theorem dX0_search_200 : decode cX0_search 200 = .ok (.iload 11, 2) := by decide +kernel
theorem dX0_search_202 : decode cX0_search 202 = .ok (.iload 6, 2) := by decide +kernel
theorem dX0_search_204 : decode cX0_search 204 = .ok (.if_icmp .ge 23, 3) := by decide +kernel
theorem dX0_search_207 : decode cX0_search 207 = .ok (.iload 5, 2) := by decide +kernel
theorem dX0_search_209 : decode cX0_search 209 = .ok (.iconst 1, 1) := by decide +kernel
theorem dX0_search_210 : decode cX0_search 210 = .ok (.iload 9, 2) := by decide +kernel
theorem dX0_search_212 : decode cX0_search 212 = .ok (.ishl, 1) := by decide +kernel
theorem dX0_search_213 : decode cX0_search 213 = .ok (.ior, 1) := by decide +kernel
theorem dX0_search_214 : decode cX0_search 214 = .ok (.istore 5, 2) := by decide +kernel
theorem dX0_search_216 : decode cX0_search 216 = .ok (.iinc 7 1, 3) := by decide +kernel
theorem dX0_search_219 : decode cX0_search 219 = .ok (.aload_n 0, 1) := by decide +kernel
theorem dX0_search_220 : decode cX0_search 220 = .ok (.getfield 22, 3) := by decide +kernel
theorem dX0_search_223 : decode cX0_search 223 = .ok (.iload 7, 2) := by decide +kernel
theorem dX0_search_225 : decode cX0_search 225 = .ok (.iconst (-1), 1) := by decide +kernel
theorem dX0_search_226 : decode cX0_search 226 = .ok (.bastore, 1) := by decide +kernel
theorem dX0_search_227 : decode cX0_search 227 = .ok (.iinc 8 1, 3) := by decide +kernel
theorem dX0_search_230 : decode cX0_search 230 = .ok (.goto (-159), 3) := by decide +kernel
theorem dX0_search_233 : decode cX0_search 233 = .ok (.iload 6, 2) := by decide +kernel
theorem dX0_search_235 : decode cX0_search 235 = .ok (.ireturn, 1) := by decide +kernel
end
section
set_option maxRecDepth 100000
abbrev cX0_count : ByteArray := prog_1_method_10_code
def yX0_count : MethodName := ⟨RX0, "count", "()I"⟩
theorem dX0_count_0 : decode cX0_count 0 = .ok (.iconst 0, 1) := by decide +kernel
theorem dX0_count_1 : decode cX0_count 1 = .ok (.istore_n 1, 1) := by decide +kernel
theorem dX0_count_2 : decode cX0_count 2 = .ok (.iconst 0, 1) := by decide +kernel
theorem dX0_count_3 : decode cX0_count 3 = .ok (.istore_n 2, 1) := by decide +kernel
theorem dX0_count_4 : decode cX0_count 4 = .ok (.iload_n 2, 1) := by decide +kernel
theorem dX0_count_5 : decode cX0_count 5 = .ok (.bipush 6, 2) := by decide +kernel
theorem dX0_count_7 : decode cX0_count 7 = .ok (.if_icmp .ge 20, 3) := by decide +kernel
theorem dX0_count_10 : decode cX0_count 10 = .ok (.iload_n 1, 1) := by decide +kernel
theorem dX0_count_11 : decode cX0_count 11 = .ok (.aload_n 0, 1) := by decide +kernel
theorem dX0_count_12 : decode cX0_count 12 = .ok (.getfield 36, 3) := by decide +kernel
theorem dX0_count_15 : decode cX0_count 15 = .ok (.iload_n 2, 1) := by decide +kernel
theorem dX0_count_16 : decode cX0_count 16 = .ok (.ishr, 1) := by decide +kernel
theorem dX0_count_17 : decode cX0_count 17 = .ok (.iconst 1, 1) := by decide +kernel
theorem dX0_count_18 : decode cX0_count 18 = .ok (.iand, 1) := by decide +kernel
theorem dX0_count_19 : decode cX0_count 19 = .ok (.iadd, 1) := by decide +kernel
theorem dX0_count_20 : decode cX0_count 20 = .ok (.istore_n 1, 1) := by decide +kernel
theorem dX0_count_21 : decode cX0_count 21 = .ok (.iinc 2 1, 3) := by decide +kernel
theorem dX0_count_24 : decode cX0_count 24 = .ok (.goto (-20), 3) := by decide +kernel
theorem dX0_count_27 : decode cX0_count 27 = .ok (.iload_n 1, 1) := by decide +kernel
theorem dX0_count_28 : decode cX0_count 28 = .ok (.ireturn, 1) := by decide +kernel
abbrev cX0_nextJob : ByteArray := prog_1_method_17_code
def yX0_nextJob : MethodName := ⟨RX0, "nextJob", "(IIII)I"⟩
theorem dX0_nextJob_0 : decode cX0_nextJob 0 = .ok (.iload_n 1, 1) := by decide +kernel
theorem dX0_nextJob_1 : decode cX0_nextJob 1 = .ok (.istore 5, 2) := by decide +kernel
theorem dX0_nextJob_3 : decode cX0_nextJob 3 = .ok (.iload 5, 2) := by decide +kernel
theorem dX0_nextJob_5 : decode cX0_nextJob 5 = .ok (.bipush 6, 2) := by decide +kernel
theorem dX0_nextJob_7 : decode cX0_nextJob 7 = .ok (.if_icmp .ge 61, 3) := by decide +kernel
theorem dX0_nextJob_10 : decode cX0_nextJob 10 = .ok (.iload_n 3, 1) := by decide +kernel
theorem dX0_nextJob_11 : decode cX0_nextJob 11 = .ok (.ifCond .lt 22, 3) := by decide +kernel
theorem dX0_nextJob_14 : decode cX0_nextJob 14 = .ok (.iload 5, 2) := by decide +kernel
theorem dX0_nextJob_16 : decode cX0_nextJob 16 = .ok (.iload 4, 2) := by decide +kernel
theorem dX0_nextJob_18 : decode cX0_nextJob 18 = .ok (.if_icmp .ne 15, 3) := by decide +kernel
theorem dX0_nextJob_21 : decode cX0_nextJob 21 = .ok (.iload_n 2, 1) := by decide +kernel
theorem dX0_nextJob_22 : decode cX0_nextJob 22 = .ok (.iload_n 3, 1) := by decide +kernel
theorem dX0_nextJob_23 : decode cX0_nextJob 23 = .ok (.ishr, 1) := by decide +kernel
theorem dX0_nextJob_24 : decode cX0_nextJob 24 = .ok (.iconst 1, 1) := by decide +kernel
theorem dX0_nextJob_25 : decode cX0_nextJob 25 = .ok (.iand, 1) := by decide +kernel
theorem dX0_nextJob_26 : decode cX0_nextJob 26 = .ok (.ifCond .ne 7, 3) := by decide +kernel
theorem dX0_nextJob_29 : decode cX0_nextJob 29 = .ok (.iconst 1, 1) := by decide +kernel
theorem dX0_nextJob_30 : decode cX0_nextJob 30 = .ok (.goto 4, 3) := by decide +kernel
theorem dX0_nextJob_33 : decode cX0_nextJob 33 = .ok (.iconst 0, 1) := by decide +kernel
theorem dX0_nextJob_34 : decode cX0_nextJob 34 = .ok (.istore 6, 2) := by decide +kernel
theorem dX0_nextJob_36 : decode cX0_nextJob 36 = .ok (.aload_n 0, 1) := by decide +kernel
theorem dX0_nextJob_37 : decode cX0_nextJob 37 = .ok (.iload 5, 2) := by decide +kernel
theorem dX0_nextJob_39 : decode cX0_nextJob 39 = .ok (.invokevirtual 48, 3) := by decide +kernel
theorem dX0_nextJob_42 : decode cX0_nextJob 42 = .ok (.ifCond .eq 20, 3) := by decide +kernel
theorem dX0_nextJob_45 : decode cX0_nextJob 45 = .ok (.iload_n 2, 1) := by decide +kernel
theorem dX0_nextJob_46 : decode cX0_nextJob 46 = .ok (.iload 5, 2) := by decide +kernel
theorem dX0_nextJob_48 : decode cX0_nextJob 48 = .ok (.ishr, 1) := by decide +kernel
theorem dX0_nextJob_49 : decode cX0_nextJob 49 = .ok (.iconst 1, 1) := by decide +kernel
theorem dX0_nextJob_50 : decode cX0_nextJob 50 = .ok (.iand, 1) := by decide +kernel
theorem dX0_nextJob_51 : decode cX0_nextJob 51 = .ok (.ifCond .ne 11, 3) := by decide +kernel
theorem dX0_nextJob_54 : decode cX0_nextJob 54 = .ok (.iload 6, 2) := by decide +kernel
theorem dX0_nextJob_56 : decode cX0_nextJob 56 = .ok (.ifCond .ne 6, 3) := by decide +kernel
theorem dX0_nextJob_59 : decode cX0_nextJob 59 = .ok (.iload 5, 2) := by decide +kernel
theorem dX0_nextJob_61 : decode cX0_nextJob 61 = .ok (.ireturn, 1) := by decide +kernel
theorem dX0_nextJob_62 : decode cX0_nextJob 62 = .ok (.iinc 5 1, 3) := by decide +kernel
theorem dX0_nextJob_65 : decode cX0_nextJob 65 = .ok (.goto (-62), 3) := by decide +kernel
theorem dX0_nextJob_68 : decode cX0_nextJob 68 = .ok (.iconst (-1), 1) := by decide +kernel
theorem dX0_nextJob_69 : decode cX0_nextJob 69 = .ok (.ireturn, 1) := by decide +kernel
abbrev cX0_place : ByteArray := prog_1_method_14_code
def yX0_place : MethodName := ⟨RX0, "place", "(II)V"⟩
theorem dX0_place_0 : decode cX0_place 0 = .ok (.aload_n 0, 1) := by decide +kernel
theorem dX0_place_1 : decode cX0_place 1 = .ok (.getfield 22, 3) := by decide +kernel
theorem dX0_place_4 : decode cX0_place 4 = .ok (.iload_n 1, 1) := by decide +kernel
theorem dX0_place_5 : decode cX0_place 5 = .ok (.iload_n 2, 1) := by decide +kernel
theorem dX0_place_6 : decode cX0_place 6 = .ok (.i2b, 1) := by decide +kernel
theorem dX0_place_7 : decode cX0_place 7 = .ok (.bastore, 1) := by decide +kernel
theorem dX0_place_8 : decode cX0_place 8 = .ok (.aload_n 0, 1) := by decide +kernel
theorem dX0_place_9 : decode cX0_place 9 = .ok (.getfield 26, 3) := by decide +kernel
theorem dX0_place_12 : decode cX0_place 12 = .ok (.iload_n 1, 1) := by decide +kernel
theorem dX0_place_13 : decode cX0_place 13 = .ok (.iaload, 1) := by decide +kernel
theorem dX0_place_14 : decode cX0_place 14 = .ok (.aload_n 0, 1) := by decide +kernel
theorem dX0_place_15 : decode cX0_place 15 = .ok (.getfield 7, 3) := by decide +kernel
theorem dX0_place_18 : decode cX0_place 18 = .ok (.iload_n 2, 1) := by decide +kernel
theorem dX0_place_19 : decode cX0_place 19 = .ok (.saload, 1) := by decide +kernel
theorem dX0_place_20 : decode cX0_place 20 = .ok (.if_icmp .le 12, 3) := by decide +kernel
theorem dX0_place_23 : decode cX0_place 23 = .ok (.aload_n 0, 1) := by decide +kernel
theorem dX0_place_24 : decode cX0_place 24 = .ok (.getfield 26, 3) := by decide +kernel
theorem dX0_place_27 : decode cX0_place 27 = .ok (.iload_n 1, 1) := by decide +kernel
theorem dX0_place_28 : decode cX0_place 28 = .ok (.iaload, 1) := by decide +kernel
theorem dX0_place_29 : decode cX0_place 29 = .ok (.goto 9, 3) := by decide +kernel
theorem dX0_place_32 : decode cX0_place 32 = .ok (.aload_n 0, 1) := by decide +kernel
theorem dX0_place_33 : decode cX0_place 33 = .ok (.getfield 7, 3) := by decide +kernel
theorem dX0_place_36 : decode cX0_place 36 = .ok (.iload_n 2, 1) := by decide +kernel
theorem dX0_place_37 : decode cX0_place 37 = .ok (.saload, 1) := by decide +kernel
theorem dX0_place_38 : decode cX0_place 38 = .ok (.istore_n 3, 1) := by decide +kernel
theorem dX0_place_39 : decode cX0_place 39 = .ok (.iload_n 3, 1) := by decide +kernel
theorem dX0_place_40 : decode cX0_place 40 = .ok (.aload_n 0, 1) := by decide +kernel
theorem dX0_place_41 : decode cX0_place 41 = .ok (.getfield 13, 3) := by decide +kernel
theorem dX0_place_44 : decode cX0_place 44 = .ok (.iload_n 2, 1) := by decide +kernel
theorem dX0_place_45 : decode cX0_place 45 = .ok (.saload, 1) := by decide +kernel
theorem dX0_place_46 : decode cX0_place 46 = .ok (.iadd, 1) := by decide +kernel
theorem dX0_place_47 : decode cX0_place 47 = .ok (.istore 4, 2) := by decide +kernel
theorem dX0_place_49 : decode cX0_place 49 = .ok (.iload 4, 2) := by decide +kernel
theorem dX0_place_51 : decode cX0_place 51 = .ok (.aload_n 0, 1) := by decide +kernel
theorem dX0_place_52 : decode cX0_place 52 = .ok (.getfield 16, 3) := by decide +kernel
theorem dX0_place_55 : decode cX0_place 55 = .ok (.iload_n 2, 1) := by decide +kernel
theorem dX0_place_56 : decode cX0_place 56 = .ok (.saload, 1) := by decide +kernel
theorem dX0_place_57 : decode cX0_place 57 = .ok (.iadd, 1) := by decide +kernel
theorem dX0_place_58 : decode cX0_place 58 = .ok (.istore 5, 2) := by decide +kernel
theorem dX0_place_60 : decode cX0_place 60 = .ok (.aload_n 0, 1) := by decide +kernel
theorem dX0_place_61 : decode cX0_place 61 = .ok (.getfield 26, 3) := by decide +kernel
theorem dX0_place_64 : decode cX0_place 64 = .ok (.iload_n 1, 1) := by decide +kernel
theorem dX0_place_65 : decode cX0_place 65 = .ok (.iconst 1, 1) := by decide +kernel
theorem dX0_place_66 : decode cX0_place 66 = .ok (.iadd, 1) := by decide +kernel
theorem dX0_place_67 : decode cX0_place 67 = .ok (.iload 4, 2) := by decide +kernel
theorem dX0_place_69 : decode cX0_place 69 = .ok (.iastore, 1) := by decide +kernel
theorem dX0_place_70 : decode cX0_place 70 = .ok (.aload_n 0, 1) := by decide +kernel
theorem dX0_place_71 : decode cX0_place 71 = .ok (.getfield 30, 3) := by decide +kernel
theorem dX0_place_74 : decode cX0_place 74 = .ok (.iload_n 1, 1) := by decide +kernel
theorem dX0_place_75 : decode cX0_place 75 = .ok (.iconst 1, 1) := by decide +kernel
theorem dX0_place_76 : decode cX0_place 76 = .ok (.iadd, 1) := by decide +kernel
theorem dX0_place_77 : decode cX0_place 77 = .ok (.iload 5, 2) := by decide +kernel
theorem dX0_place_79 : decode cX0_place 79 = .ok (.aload_n 0, 1) := by decide +kernel
theorem dX0_place_80 : decode cX0_place 80 = .ok (.getfield 30, 3) := by decide +kernel
theorem dX0_place_83 : decode cX0_place 83 = .ok (.iload_n 1, 1) := by decide +kernel
theorem dX0_place_84 : decode cX0_place 84 = .ok (.iaload, 1) := by decide +kernel
theorem dX0_place_85 : decode cX0_place 85 = .ok (.if_icmp .le 8, 3) := by decide +kernel
theorem dX0_place_88 : decode cX0_place 88 = .ok (.iload 5, 2) := by decide +kernel
theorem dX0_place_90 : decode cX0_place 90 = .ok (.goto 9, 3) := by decide +kernel
theorem dX0_place_93 : decode cX0_place 93 = .ok (.aload_n 0, 1) := by decide +kernel
theorem dX0_place_94 : decode cX0_place 94 = .ok (.getfield 30, 3) := by decide +kernel
theorem dX0_place_97 : decode cX0_place 97 = .ok (.iload_n 1, 1) := by decide +kernel
theorem dX0_place_98 : decode cX0_place 98 = .ok (.iaload, 1) := by decide +kernel
theorem dX0_place_99 : decode cX0_place 99 = .ok (.iastore, 1) := by decide +kernel
theorem dX0_place_100 : decode cX0_place 100 = .ok (.return_, 1) := by decide +kernel
abbrev cX0_boundFor : ByteArray := prog_1_method_16_code
def yX0_boundFor : MethodName := ⟨RX0, "boundFor", "(II)I"⟩
theorem dX0_boundFor_0 : decode cX0_boundFor 0 = .ok (.aload_n 0, 1) := by decide +kernel
theorem dX0_boundFor_1 : decode cX0_boundFor 1 = .ok (.iload_n 2, 1) := by decide +kernel
theorem dX0_boundFor_2 : decode cX0_boundFor 2 = .ok (.aload_n 0, 1) := by decide +kernel
theorem dX0_boundFor_3 : decode cX0_boundFor 3 = .ok (.getfield 26, 3) := by decide +kernel
theorem dX0_boundFor_6 : decode cX0_boundFor 6 = .ok (.iload_n 1, 1) := by decide +kernel
theorem dX0_boundFor_7 : decode cX0_boundFor 7 = .ok (.iaload, 1) := by decide +kernel
theorem dX0_boundFor_8 : decode cX0_boundFor 8 = .ok (.invokevirtual 80, 3) := by decide +kernel
theorem dX0_boundFor_11 : decode cX0_boundFor 11 = .ok (.istore_n 3, 1) := by decide +kernel
theorem dX0_boundFor_12 : decode cX0_boundFor 12 = .ok (.iload_n 3, 1) := by decide +kernel
theorem dX0_boundFor_13 : decode cX0_boundFor 13 = .ok (.aload_n 0, 1) := by decide +kernel
theorem dX0_boundFor_14 : decode cX0_boundFor 14 = .ok (.getfield 30, 3) := by decide +kernel
theorem dX0_boundFor_17 : decode cX0_boundFor 17 = .ok (.iload_n 1, 1) := by decide +kernel
theorem dX0_boundFor_18 : decode cX0_boundFor 18 = .ok (.iaload, 1) := by decide +kernel
theorem dX0_boundFor_19 : decode cX0_boundFor 19 = .ok (.if_icmp .le 7, 3) := by decide +kernel
theorem dX0_boundFor_22 : decode cX0_boundFor 22 = .ok (.iload_n 3, 1) := by decide +kernel
theorem dX0_boundFor_23 : decode cX0_boundFor 23 = .ok (.goto 9, 3) := by decide +kernel
theorem dX0_boundFor_26 : decode cX0_boundFor 26 = .ok (.aload_n 0, 1) := by decide +kernel
theorem dX0_boundFor_27 : decode cX0_boundFor 27 = .ok (.getfield 30, 3) := by decide +kernel
theorem dX0_boundFor_30 : decode cX0_boundFor 30 = .ok (.iload_n 1, 1) := by decide +kernel
theorem dX0_boundFor_31 : decode cX0_boundFor 31 = .ok (.iaload, 1) := by decide +kernel
theorem dX0_boundFor_32 : decode cX0_boundFor 32 = .ok (.ireturn, 1) := by decide +kernel
abbrev cX0_interruptedLength : ByteArray := prog_1_method_11_code
def yX0_interruptedLength : MethodName := ⟨RX0, "interruptedLength", "(II)I"⟩
theorem dX0_interruptedLength_0 : decode cX0_interruptedLength 0 = .ok (.iconst 0, 1) := by decide +kernel
theorem dX0_interruptedLength_1 : decode cX0_interruptedLength 1 = .ok (.istore_n 3, 1) := by decide +kernel
theorem dX0_interruptedLength_2 : decode cX0_interruptedLength 2 = .ok (.iload_n 3, 1) := by decide +kernel
theorem dX0_interruptedLength_3 : decode cX0_interruptedLength 3 = .ok (.bipush 6, 2) := by decide +kernel
theorem dX0_interruptedLength_5 : decode cX0_interruptedLength 5 = .ok (.if_icmp .ge 33, 3) := by decide +kernel
theorem dX0_interruptedLength_8 : decode cX0_interruptedLength 8 = .ok (.aload_n 0, 1) := by decide +kernel
theorem dX0_interruptedLength_9 : decode cX0_interruptedLength 9 = .ok (.getfield 19, 3) := by decide +kernel
theorem dX0_interruptedLength_12 : decode cX0_interruptedLength 12 = .ok (.iload_n 3, 1) := by decide +kernel
theorem dX0_interruptedLength_13 : decode cX0_interruptedLength 13 = .ok (.iload_n 1, 1) := by decide +kernel
theorem dX0_interruptedLength_14 : decode cX0_interruptedLength 14 = .ok (.iload_n 3, 1) := by decide +kernel
theorem dX0_interruptedLength_15 : decode cX0_interruptedLength 15 = .ok (.ishr, 1) := by decide +kernel
theorem dX0_interruptedLength_16 : decode cX0_interruptedLength 16 = .ok (.iconst 1, 1) := by decide +kernel
theorem dX0_interruptedLength_17 : decode cX0_interruptedLength 17 = .ok (.iand, 1) := by decide +kernel
theorem dX0_interruptedLength_18 : decode cX0_interruptedLength 18 = .ok (.ifCond .eq 12, 3) := by decide +kernel
theorem dX0_interruptedLength_21 : decode cX0_interruptedLength 21 = .ok (.aload_n 0, 1) := by decide +kernel
theorem dX0_interruptedLength_22 : decode cX0_interruptedLength 22 = .ok (.getfield 13, 3) := by decide +kernel
theorem dX0_interruptedLength_25 : decode cX0_interruptedLength 25 = .ok (.iload_n 3, 1) := by decide +kernel
theorem dX0_interruptedLength_26 : decode cX0_interruptedLength 26 = .ok (.saload, 1) := by decide +kernel
theorem dX0_interruptedLength_27 : decode cX0_interruptedLength 27 = .ok (.goto 4, 3) := by decide +kernel
theorem dX0_interruptedLength_30 : decode cX0_interruptedLength 30 = .ok (.iconst 0, 1) := by decide +kernel
theorem dX0_interruptedLength_31 : decode cX0_interruptedLength 31 = .ok (.sastore, 1) := by decide +kernel
theorem dX0_interruptedLength_32 : decode cX0_interruptedLength 32 = .ok (.iinc 3 1, 3) := by decide +kernel
theorem dX0_interruptedLength_35 : decode cX0_interruptedLength 35 = .ok (.goto (-33), 3) := by decide +kernel
theorem dX0_interruptedLength_38 : decode cX0_interruptedLength 38 = .ok (.iload_n 2, 1) := by decide +kernel
theorem dX0_interruptedLength_39 : decode cX0_interruptedLength 39 = .ok (.istore_n 3, 1) := by decide +kernel
theorem dX0_interruptedLength_40 : decode cX0_interruptedLength 40 = .ok (.iconst 0, 1) := by decide +kernel
theorem dX0_interruptedLength_41 : decode cX0_interruptedLength 41 = .ok (.istore 4, 2) := by decide +kernel
theorem dX0_interruptedLength_43 : decode cX0_interruptedLength 43 = .ok (.iconst 0, 1) := by decide +kernel
theorem dX0_interruptedLength_44 : decode cX0_interruptedLength 44 = .ok (.istore 5, 2) := by decide +kernel
theorem dX0_interruptedLength_46 : decode cX0_interruptedLength 46 = .ok (.iload 5, 2) := by decide +kernel
theorem dX0_interruptedLength_48 : decode cX0_interruptedLength 48 = .ok (.bipush 18, 2) := by decide +kernel
theorem dX0_interruptedLength_50 : decode cX0_interruptedLength 50 = .ok (.if_icmp .ge 128, 3) := by decide +kernel
theorem dX0_interruptedLength_53 : decode cX0_interruptedLength 53 = .ok (.aload_n 0, 1) := by decide +kernel
theorem dX0_interruptedLength_54 : decode cX0_interruptedLength 54 = .ok (.iload_n 3, 1) := by decide +kernel
theorem dX0_interruptedLength_55 : decode cX0_interruptedLength 55 = .ok (.invokevirtual 56, 3) := by decide +kernel
theorem dX0_interruptedLength_58 : decode cX0_interruptedLength 58 = .ok (.istore 6, 2) := by decide +kernel
theorem dX0_interruptedLength_60 : decode cX0_interruptedLength 60 = .ok (.aload_n 0, 1) := by decide +kernel
theorem dX0_interruptedLength_61 : decode cX0_interruptedLength 61 = .ok (.iload_n 3, 1) := by decide +kernel
theorem dX0_interruptedLength_62 : decode cX0_interruptedLength 62 = .ok (.invokevirtual 60, 3) := by decide +kernel
theorem dX0_interruptedLength_65 : decode cX0_interruptedLength 65 = .ok (.istore 7, 2) := by decide +kernel
theorem dX0_interruptedLength_67 : decode cX0_interruptedLength 67 = .ok (.iload 7, 2) := by decide +kernel
theorem dX0_interruptedLength_69 : decode cX0_interruptedLength 69 = .ok (.ifCond .lt 95, 3) := by decide +kernel
theorem dX0_interruptedLength_72 : decode cX0_interruptedLength 72 = .ok (.aload_n 0, 1) := by decide +kernel
theorem dX0_interruptedLength_73 : decode cX0_interruptedLength 73 = .ok (.getfield 19, 3) := by decide +kernel
theorem dX0_interruptedLength_76 : decode cX0_interruptedLength 76 = .ok (.iload 7, 2) := by decide +kernel
theorem dX0_interruptedLength_78 : decode cX0_interruptedLength 78 = .ok (.saload, 1) := by decide +kernel
theorem dX0_interruptedLength_79 : decode cX0_interruptedLength 79 = .ok (.istore 8, 2) := by decide +kernel
theorem dX0_interruptedLength_81 : decode cX0_interruptedLength 81 = .ok (.iload 6, 2) := by decide +kernel
theorem dX0_interruptedLength_83 : decode cX0_interruptedLength 83 = .ok (.ifCond .lt 18, 3) := by decide +kernel
theorem dX0_interruptedLength_86 : decode cX0_interruptedLength 86 = .ok (.iload_n 3, 1) := by decide +kernel
theorem dX0_interruptedLength_87 : decode cX0_interruptedLength 87 = .ok (.iload 8, 2) := by decide +kernel
theorem dX0_interruptedLength_89 : decode cX0_interruptedLength 89 = .ok (.iadd, 1) := by decide +kernel
theorem dX0_interruptedLength_90 : decode cX0_interruptedLength 90 = .ok (.iload 6, 2) := by decide +kernel
theorem dX0_interruptedLength_92 : decode cX0_interruptedLength 92 = .ok (.if_icmp .le 9, 3) := by decide +kernel
theorem dX0_interruptedLength_95 : decode cX0_interruptedLength 95 = .ok (.iload 6, 2) := by decide +kernel
theorem dX0_interruptedLength_97 : decode cX0_interruptedLength 97 = .ok (.iload_n 3, 1) := by decide +kernel
theorem dX0_interruptedLength_98 : decode cX0_interruptedLength 98 = .ok (.isub, 1) := by decide +kernel
theorem dX0_interruptedLength_99 : decode cX0_interruptedLength 99 = .ok (.istore 8, 2) := by decide +kernel
theorem dX0_interruptedLength_101 : decode cX0_interruptedLength 101 = .ok (.aload_n 0, 1) := by decide +kernel
theorem dX0_interruptedLength_102 : decode cX0_interruptedLength 102 = .ok (.getfield 19, 3) := by decide +kernel
theorem dX0_interruptedLength_105 : decode cX0_interruptedLength 105 = .ok (.iload 7, 2) := by decide +kernel
theorem dX0_interruptedLength_107 : decode cX0_interruptedLength 107 = .ok (.aload_n 0, 1) := by decide +kernel
theorem dX0_interruptedLength_108 : decode cX0_interruptedLength 108 = .ok (.getfield 19, 3) := by decide +kernel
theorem dX0_interruptedLength_111 : decode cX0_interruptedLength 111 = .ok (.iload 7, 2) := by decide +kernel
theorem dX0_interruptedLength_113 : decode cX0_interruptedLength 113 = .ok (.saload, 1) := by decide +kernel
theorem dX0_interruptedLength_114 : decode cX0_interruptedLength 114 = .ok (.iload 8, 2) := by decide +kernel
theorem dX0_interruptedLength_116 : decode cX0_interruptedLength 116 = .ok (.isub, 1) := by decide +kernel
theorem dX0_interruptedLength_117 : decode cX0_interruptedLength 117 = .ok (.i2s, 1) := by decide +kernel
theorem dX0_interruptedLength_118 : decode cX0_interruptedLength 118 = .ok (.sastore, 1) := by decide +kernel
theorem dX0_interruptedLength_119 : decode cX0_interruptedLength 119 = .ok (.iload_n 3, 1) := by decide +kernel
theorem dX0_interruptedLength_120 : decode cX0_interruptedLength 120 = .ok (.iload 8, 2) := by decide +kernel
theorem dX0_interruptedLength_122 : decode cX0_interruptedLength 122 = .ok (.iadd, 1) := by decide +kernel
theorem dX0_interruptedLength_123 : decode cX0_interruptedLength 123 = .ok (.istore_n 3, 1) := by decide +kernel
theorem dX0_interruptedLength_124 : decode cX0_interruptedLength 124 = .ok (.iload_n 3, 1) := by decide +kernel
theorem dX0_interruptedLength_125 : decode cX0_interruptedLength 125 = .ok (.aload_n 0, 1) := by decide +kernel
theorem dX0_interruptedLength_126 : decode cX0_interruptedLength 126 = .ok (.getfield 16, 3) := by decide +kernel
theorem dX0_interruptedLength_129 : decode cX0_interruptedLength 129 = .ok (.iload 7, 2) := by decide +kernel
theorem dX0_interruptedLength_131 : decode cX0_interruptedLength 131 = .ok (.saload, 1) := by decide +kernel
theorem dX0_interruptedLength_132 : decode cX0_interruptedLength 132 = .ok (.iadd, 1) := by decide +kernel
theorem dX0_interruptedLength_133 : decode cX0_interruptedLength 133 = .ok (.istore 9, 2) := by decide +kernel
theorem dX0_interruptedLength_135 : decode cX0_interruptedLength 135 = .ok (.aload_n 0, 1) := by decide +kernel
theorem dX0_interruptedLength_136 : decode cX0_interruptedLength 136 = .ok (.getfield 19, 3) := by decide +kernel
theorem dX0_interruptedLength_139 : decode cX0_interruptedLength 139 = .ok (.iload 7, 2) := by decide +kernel
theorem dX0_interruptedLength_141 : decode cX0_interruptedLength 141 = .ok (.saload, 1) := by decide +kernel
theorem dX0_interruptedLength_142 : decode cX0_interruptedLength 142 = .ok (.ifCond .ne 15, 3) := by decide +kernel
theorem dX0_interruptedLength_145 : decode cX0_interruptedLength 145 = .ok (.iload 9, 2) := by decide +kernel
theorem dX0_interruptedLength_147 : decode cX0_interruptedLength 147 = .ok (.iload 4, 2) := by decide +kernel
theorem dX0_interruptedLength_149 : decode cX0_interruptedLength 149 = .ok (.if_icmp .le 8, 3) := by decide +kernel
theorem dX0_interruptedLength_152 : decode cX0_interruptedLength 152 = .ok (.iload 9, 2) := by decide +kernel
theorem dX0_interruptedLength_154 : decode cX0_interruptedLength 154 = .ok (.goto 5, 3) := by decide +kernel
theorem dX0_interruptedLength_157 : decode cX0_interruptedLength 157 = .ok (.iload 4, 2) := by decide +kernel
theorem dX0_interruptedLength_159 : decode cX0_interruptedLength 159 = .ok (.istore 4, 2) := by decide +kernel
theorem dX0_interruptedLength_161 : decode cX0_interruptedLength 161 = .ok (.goto 11, 3) := by decide +kernel
theorem dX0_interruptedLength_164 : decode cX0_interruptedLength 164 = .ok (.iload 6, 2) := by decide +kernel
theorem dX0_interruptedLength_166 : decode cX0_interruptedLength 166 = .ok (.ifCond .lt 6, 3) := by decide +kernel
theorem dX0_interruptedLength_169 : decode cX0_interruptedLength 169 = .ok (.iload 6, 2) := by decide +kernel
theorem dX0_interruptedLength_171 : decode cX0_interruptedLength 171 = .ok (.istore_n 3, 1) := by decide +kernel
theorem dX0_interruptedLength_172 : decode cX0_interruptedLength 172 = .ok (.iinc 5 1, 3) := by decide +kernel
theorem dX0_interruptedLength_175 : decode cX0_interruptedLength 175 = .ok (.goto (-129), 3) := by decide +kernel
theorem dX0_interruptedLength_178 : decode cX0_interruptedLength 178 = .ok (.iload 4, 2) := by decide +kernel
theorem dX0_interruptedLength_180 : decode cX0_interruptedLength 180 = .ok (.ireturn, 1) := by decide +kernel
abbrev cX0_nextRelease : ByteArray := prog_1_method_13_code
def yX0_nextRelease : MethodName := ⟨RX0, "nextRelease", "(I)I"⟩
theorem dX0_nextRelease_0 : decode cX0_nextRelease 0 = .ok (.iconst (-1), 1) := by decide +kernel
theorem dX0_nextRelease_1 : decode cX0_nextRelease 1 = .ok (.istore_n 2, 1) := by decide +kernel
theorem dX0_nextRelease_2 : decode cX0_nextRelease 2 = .ok (.iconst 0, 1) := by decide +kernel
theorem dX0_nextRelease_3 : decode cX0_nextRelease 3 = .ok (.istore_n 3, 1) := by decide +kernel
theorem dX0_nextRelease_4 : decode cX0_nextRelease 4 = .ok (.iload_n 3, 1) := by decide +kernel
theorem dX0_nextRelease_5 : decode cX0_nextRelease 5 = .ok (.bipush 6, 2) := by decide +kernel
theorem dX0_nextRelease_7 : decode cX0_nextRelease 7 = .ok (.if_icmp .ge 49, 3) := by decide +kernel
theorem dX0_nextRelease_10 : decode cX0_nextRelease 10 = .ok (.aload_n 0, 1) := by decide +kernel
theorem dX0_nextRelease_11 : decode cX0_nextRelease 11 = .ok (.getfield 19, 3) := by decide +kernel
theorem dX0_nextRelease_14 : decode cX0_nextRelease 14 = .ok (.iload_n 3, 1) := by decide +kernel
theorem dX0_nextRelease_15 : decode cX0_nextRelease 15 = .ok (.saload, 1) := by decide +kernel
theorem dX0_nextRelease_16 : decode cX0_nextRelease 16 = .ok (.ifCond .le 34, 3) := by decide +kernel
theorem dX0_nextRelease_19 : decode cX0_nextRelease 19 = .ok (.aload_n 0, 1) := by decide +kernel
theorem dX0_nextRelease_20 : decode cX0_nextRelease 20 = .ok (.getfield 7, 3) := by decide +kernel
theorem dX0_nextRelease_23 : decode cX0_nextRelease 23 = .ok (.iload_n 3, 1) := by decide +kernel
theorem dX0_nextRelease_24 : decode cX0_nextRelease 24 = .ok (.saload, 1) := by decide +kernel
theorem dX0_nextRelease_25 : decode cX0_nextRelease 25 = .ok (.iload_n 1, 1) := by decide +kernel
theorem dX0_nextRelease_26 : decode cX0_nextRelease 26 = .ok (.if_icmp .le 24, 3) := by decide +kernel
theorem dX0_nextRelease_29 : decode cX0_nextRelease 29 = .ok (.iload_n 2, 1) := by decide +kernel
theorem dX0_nextRelease_30 : decode cX0_nextRelease 30 = .ok (.ifCond .lt 13, 3) := by decide +kernel
theorem dX0_nextRelease_33 : decode cX0_nextRelease 33 = .ok (.aload_n 0, 1) := by decide +kernel
theorem dX0_nextRelease_34 : decode cX0_nextRelease 34 = .ok (.getfield 7, 3) := by decide +kernel
theorem dX0_nextRelease_37 : decode cX0_nextRelease 37 = .ok (.iload_n 3, 1) := by decide +kernel
theorem dX0_nextRelease_38 : decode cX0_nextRelease 38 = .ok (.saload, 1) := by decide +kernel
theorem dX0_nextRelease_39 : decode cX0_nextRelease 39 = .ok (.iload_n 2, 1) := by decide +kernel
theorem dX0_nextRelease_40 : decode cX0_nextRelease 40 = .ok (.if_icmp .ge 10, 3) := by decide +kernel
theorem dX0_nextRelease_43 : decode cX0_nextRelease 43 = .ok (.aload_n 0, 1) := by decide +kernel
theorem dX0_nextRelease_44 : decode cX0_nextRelease 44 = .ok (.getfield 7, 3) := by decide +kernel
theorem dX0_nextRelease_47 : decode cX0_nextRelease 47 = .ok (.iload_n 3, 1) := by decide +kernel
theorem dX0_nextRelease_48 : decode cX0_nextRelease 48 = .ok (.saload, 1) := by decide +kernel
theorem dX0_nextRelease_49 : decode cX0_nextRelease 49 = .ok (.istore_n 2, 1) := by decide +kernel
theorem dX0_nextRelease_50 : decode cX0_nextRelease 50 = .ok (.iinc 3 1, 3) := by decide +kernel
theorem dX0_nextRelease_53 : decode cX0_nextRelease 53 = .ok (.goto (-49), 3) := by decide +kernel
theorem dX0_nextRelease_56 : decode cX0_nextRelease 56 = .ok (.iload_n 2, 1) := by decide +kernel
theorem dX0_nextRelease_57 : decode cX0_nextRelease 57 = .ok (.ireturn, 1) := by decide +kernel
abbrev cX0_mostUrgent : ByteArray := prog_1_method_12_code
def yX0_mostUrgent : MethodName := ⟨RX0, "mostUrgent", "(I)I"⟩
theorem dX0_mostUrgent_0 : decode cX0_mostUrgent 0 = .ok (.iconst (-1), 1) := by decide +kernel
theorem dX0_mostUrgent_1 : decode cX0_mostUrgent 1 = .ok (.istore_n 2, 1) := by decide +kernel
theorem dX0_mostUrgent_2 : decode cX0_mostUrgent 2 = .ok (.iconst 0, 1) := by decide +kernel
theorem dX0_mostUrgent_3 : decode cX0_mostUrgent 3 = .ok (.istore_n 3, 1) := by decide +kernel
theorem dX0_mostUrgent_4 : decode cX0_mostUrgent 4 = .ok (.iload_n 3, 1) := by decide +kernel
theorem dX0_mostUrgent_5 : decode cX0_mostUrgent 5 = .ok (.bipush 6, 2) := by decide +kernel
theorem dX0_mostUrgent_7 : decode cX0_mostUrgent 7 = .ok (.if_icmp .ge 49, 3) := by decide +kernel
theorem dX0_mostUrgent_10 : decode cX0_mostUrgent 10 = .ok (.aload_n 0, 1) := by decide +kernel
theorem dX0_mostUrgent_11 : decode cX0_mostUrgent 11 = .ok (.getfield 19, 3) := by decide +kernel
theorem dX0_mostUrgent_14 : decode cX0_mostUrgent 14 = .ok (.iload_n 3, 1) := by decide +kernel
theorem dX0_mostUrgent_15 : decode cX0_mostUrgent 15 = .ok (.saload, 1) := by decide +kernel
theorem dX0_mostUrgent_16 : decode cX0_mostUrgent 16 = .ok (.ifCond .le 34, 3) := by decide +kernel
theorem dX0_mostUrgent_19 : decode cX0_mostUrgent 19 = .ok (.aload_n 0, 1) := by decide +kernel
theorem dX0_mostUrgent_20 : decode cX0_mostUrgent 20 = .ok (.getfield 7, 3) := by decide +kernel
theorem dX0_mostUrgent_23 : decode cX0_mostUrgent 23 = .ok (.iload_n 3, 1) := by decide +kernel
theorem dX0_mostUrgent_24 : decode cX0_mostUrgent 24 = .ok (.saload, 1) := by decide +kernel
theorem dX0_mostUrgent_25 : decode cX0_mostUrgent 25 = .ok (.iload_n 1, 1) := by decide +kernel
theorem dX0_mostUrgent_26 : decode cX0_mostUrgent 26 = .ok (.if_icmp .gt 24, 3) := by decide +kernel
theorem dX0_mostUrgent_29 : decode cX0_mostUrgent 29 = .ok (.iload_n 2, 1) := by decide +kernel
theorem dX0_mostUrgent_30 : decode cX0_mostUrgent 30 = .ok (.ifCond .lt 18, 3) := by decide +kernel
theorem dX0_mostUrgent_33 : decode cX0_mostUrgent 33 = .ok (.aload_n 0, 1) := by decide +kernel
theorem dX0_mostUrgent_34 : decode cX0_mostUrgent 34 = .ok (.getfield 16, 3) := by decide +kernel
theorem dX0_mostUrgent_37 : decode cX0_mostUrgent 37 = .ok (.iload_n 3, 1) := by decide +kernel
theorem dX0_mostUrgent_38 : decode cX0_mostUrgent 38 = .ok (.saload, 1) := by decide +kernel
theorem dX0_mostUrgent_39 : decode cX0_mostUrgent 39 = .ok (.aload_n 0, 1) := by decide +kernel
theorem dX0_mostUrgent_40 : decode cX0_mostUrgent 40 = .ok (.getfield 16, 3) := by decide +kernel
theorem dX0_mostUrgent_43 : decode cX0_mostUrgent 43 = .ok (.iload_n 2, 1) := by decide +kernel
theorem dX0_mostUrgent_44 : decode cX0_mostUrgent 44 = .ok (.saload, 1) := by decide +kernel
theorem dX0_mostUrgent_45 : decode cX0_mostUrgent 45 = .ok (.if_icmp .le 5, 3) := by decide +kernel
theorem dX0_mostUrgent_48 : decode cX0_mostUrgent 48 = .ok (.iload_n 3, 1) := by decide +kernel
theorem dX0_mostUrgent_49 : decode cX0_mostUrgent 49 = .ok (.istore_n 2, 1) := by decide +kernel
theorem dX0_mostUrgent_50 : decode cX0_mostUrgent 50 = .ok (.iinc 3 1, 3) := by decide +kernel
theorem dX0_mostUrgent_53 : decode cX0_mostUrgent 53 = .ok (.goto (-49), 3) := by decide +kernel
theorem dX0_mostUrgent_56 : decode cX0_mostUrgent 56 = .ok (.iload_n 2, 1) := by decide +kernel
theorem dX0_mostUrgent_57 : decode cX0_mostUrgent 57 = .ok (.ireturn, 1) := by decide +kernel
abbrev cX0_firstFitting : ByteArray := prog_1_method_20_code
def yX0_firstFitting : MethodName := ⟨RX0, "firstFitting", "(II)I"⟩
theorem dX0_firstFitting_0 : decode cX0_firstFitting 0 = .ok (.iconst 0, 1) := by decide +kernel
theorem dX0_firstFitting_1 : decode cX0_firstFitting 1 = .ok (.istore_n 3, 1) := by decide +kernel
theorem dX0_firstFitting_2 : decode cX0_firstFitting 2 = .ok (.iload_n 3, 1) := by decide +kernel
theorem dX0_firstFitting_3 : decode cX0_firstFitting 3 = .ok (.bipush 6, 2) := by decide +kernel
theorem dX0_firstFitting_5 : decode cX0_firstFitting 5 = .ok (.if_icmp .ge 53, 3) := by decide +kernel
theorem dX0_firstFitting_8 : decode cX0_firstFitting 8 = .ok (.aload_n 0, 1) := by decide +kernel
theorem dX0_firstFitting_9 : decode cX0_firstFitting 9 = .ok (.iload_n 3, 1) := by decide +kernel
theorem dX0_firstFitting_10 : decode cX0_firstFitting 10 = .ok (.invokevirtual 48, 3) := by decide +kernel
theorem dX0_firstFitting_13 : decode cX0_firstFitting 13 = .ok (.ifCond .eq 39, 3) := by decide +kernel
theorem dX0_firstFitting_16 : decode cX0_firstFitting 16 = .ok (.iload_n 2, 1) := by decide +kernel
theorem dX0_firstFitting_17 : decode cX0_firstFitting 17 = .ok (.iload_n 3, 1) := by decide +kernel
theorem dX0_firstFitting_18 : decode cX0_firstFitting 18 = .ok (.ishr, 1) := by decide +kernel
theorem dX0_firstFitting_19 : decode cX0_firstFitting 19 = .ok (.iconst 1, 1) := by decide +kernel
theorem dX0_firstFitting_20 : decode cX0_firstFitting 20 = .ok (.iand, 1) := by decide +kernel
theorem dX0_firstFitting_21 : decode cX0_firstFitting 21 = .ok (.ifCond .ne 31, 3) := by decide +kernel
theorem dX0_firstFitting_24 : decode cX0_firstFitting 24 = .ok (.aload_n 0, 1) := by decide +kernel
theorem dX0_firstFitting_25 : decode cX0_firstFitting 25 = .ok (.iload_n 1, 1) := by decide +kernel
theorem dX0_firstFitting_26 : decode cX0_firstFitting 26 = .ok (.iload_n 3, 1) := by decide +kernel
theorem dX0_firstFitting_27 : decode cX0_firstFitting 27 = .ok (.invokevirtual 72, 3) := by decide +kernel
theorem dX0_firstFitting_30 : decode cX0_firstFitting 30 = .ok (.aload_n 0, 1) := by decide +kernel
theorem dX0_firstFitting_31 : decode cX0_firstFitting 31 = .ok (.iload_n 1, 1) := by decide +kernel
theorem dX0_firstFitting_32 : decode cX0_firstFitting 32 = .ok (.iconst 1, 1) := by decide +kernel
theorem dX0_firstFitting_33 : decode cX0_firstFitting 33 = .ok (.iadd, 1) := by decide +kernel
theorem dX0_firstFitting_34 : decode cX0_firstFitting 34 = .ok (.iconst (-1), 1) := by decide +kernel
theorem dX0_firstFitting_35 : decode cX0_firstFitting 35 = .ok (.iconst (-1), 1) := by decide +kernel
theorem dX0_firstFitting_36 : decode cX0_firstFitting 36 = .ok (.invokevirtual 86, 3) := by decide +kernel
theorem dX0_firstFitting_39 : decode cX0_firstFitting 39 = .ok (.istore 4, 2) := by decide +kernel
theorem dX0_firstFitting_41 : decode cX0_firstFitting 41 = .ok (.iload 4, 2) := by decide +kernel
theorem dX0_firstFitting_43 : decode cX0_firstFitting 43 = .ok (.aload_n 0, 1) := by decide +kernel
theorem dX0_firstFitting_44 : decode cX0_firstFitting 44 = .ok (.getfield 90, 3) := by decide +kernel
theorem dX0_firstFitting_47 : decode cX0_firstFitting 47 = .ok (.if_icmp .ne 5, 3) := by decide +kernel
theorem dX0_firstFitting_50 : decode cX0_firstFitting 50 = .ok (.iload_n 3, 1) := by decide +kernel
theorem dX0_firstFitting_51 : decode cX0_firstFitting 51 = .ok (.ireturn, 1) := by decide +kernel
theorem dX0_firstFitting_52 : decode cX0_firstFitting 52 = .ok (.iinc 3 1, 3) := by decide +kernel
theorem dX0_firstFitting_55 : decode cX0_firstFitting 55 = .ok (.goto (-53), 3) := by decide +kernel
theorem dX0_firstFitting_58 : decode cX0_firstFitting 58 = .ok (.iconst 0, 1) := by decide +kernel
theorem dX0_firstFitting_59 : decode cX0_firstFitting 59 = .ok (.ireturn, 1) := by decide +kernel
end
section
set_option maxRecDepth 100000
abbrev cX0_bestAt : ByteArray := prog_1_method_23_code
def yX0_bestAt : MethodName := ⟨RX0, "bestAt", "(I)I"⟩
theorem dX0_bestAt_0 : decode cX0_bestAt 0 = .ok (.iload_n 1, 1) := by decide +kernel
theorem dX0_bestAt_1 : decode cX0_bestAt 1 = .ok (.ifCond .lt 11, 3) := by decide +kernel
theorem dX0_bestAt_4 : decode cX0_bestAt 4 = .ok (.iload_n 1, 1) := by decide +kernel
theorem dX0_bestAt_5 : decode cX0_bestAt 5 = .ok (.aload_n 0, 1) := by decide +kernel
theorem dX0_bestAt_6 : decode cX0_bestAt 6 = .ok (.invokevirtual 63, 3) := by decide +kernel
theorem dX0_bestAt_9 : decode cX0_bestAt 9 = .ok (.if_icmp .lt 5, 3) := by decide +kernel
theorem dX0_bestAt_12 : decode cX0_bestAt 12 = .ok (.iconst (-1), 1) := by decide +kernel
theorem dX0_bestAt_13 : decode cX0_bestAt 13 = .ok (.ireturn, 1) := by decide +kernel
theorem dX0_bestAt_14 : decode cX0_bestAt 14 = .ok (.aload_n 0, 1) := by decide +kernel
theorem dX0_bestAt_15 : decode cX0_bestAt 15 = .ok (.invokevirtual 96, 3) := by decide +kernel
theorem dX0_bestAt_18 : decode cX0_bestAt 18 = .ok (.aload_n 0, 1) := by decide +kernel
theorem dX0_bestAt_19 : decode cX0_bestAt 19 = .ok (.getfield 33, 3) := by decide +kernel
theorem dX0_bestAt_22 : decode cX0_bestAt 22 = .ok (.iload_n 1, 1) := by decide +kernel
theorem dX0_bestAt_23 : decode cX0_bestAt 23 = .ok (.baload, 1) := by decide +kernel
theorem dX0_bestAt_24 : decode cX0_bestAt 24 = .ok (.ireturn, 1) := by decide +kernel
abbrev cX0_begins : ByteArray := prog_1_method_24_code
def yX0_begins : MethodName := ⟨RX0, "begins", "(I)I"⟩
theorem dX0_begins_0 : decode cX0_begins 0 = .ok (.aload_n 0, 1) := by decide +kernel
theorem dX0_begins_1 : decode cX0_begins 1 = .ok (.iload_n 1, 1) := by decide +kernel
theorem dX0_begins_2 : decode cX0_begins 2 = .ok (.invokevirtual 48, 3) := by decide +kernel
theorem dX0_begins_5 : decode cX0_begins 5 = .ok (.ifCond .ne 5, 3) := by decide +kernel
theorem dX0_begins_8 : decode cX0_begins 8 = .ok (.iconst (-1), 1) := by decide +kernel
theorem dX0_begins_9 : decode cX0_begins 9 = .ok (.ireturn, 1) := by decide +kernel
theorem dX0_begins_10 : decode cX0_begins 10 = .ok (.aload_n 0, 1) := by decide +kernel
theorem dX0_begins_11 : decode cX0_begins 11 = .ok (.invokevirtual 96, 3) := by decide +kernel
theorem dX0_begins_14 : decode cX0_begins 14 = .ok (.aload_n 0, 1) := by decide +kernel
theorem dX0_begins_15 : decode cX0_begins 15 = .ok (.invokevirtual 83, 3) := by decide +kernel
theorem dX0_begins_18 : decode cX0_begins 18 = .ok (.iconst 0, 1) := by decide +kernel
theorem dX0_begins_19 : decode cX0_begins 19 = .ok (.istore_n 2, 1) := by decide +kernel
theorem dX0_begins_20 : decode cX0_begins 20 = .ok (.iload_n 2, 1) := by decide +kernel
theorem dX0_begins_21 : decode cX0_begins 21 = .ok (.bipush 6, 2) := by decide +kernel
theorem dX0_begins_23 : decode cX0_begins 23 = .ok (.if_icmp .ge 46, 3) := by decide +kernel
theorem dX0_begins_26 : decode cX0_begins 26 = .ok (.aload_n 0, 1) := by decide +kernel
theorem dX0_begins_27 : decode cX0_begins 27 = .ok (.iload_n 2, 1) := by decide +kernel
theorem dX0_begins_28 : decode cX0_begins 28 = .ok (.aload_n 0, 1) := by decide +kernel
theorem dX0_begins_29 : decode cX0_begins 29 = .ok (.getfield 33, 3) := by decide +kernel
theorem dX0_begins_32 : decode cX0_begins 32 = .ok (.iload_n 2, 1) := by decide +kernel
theorem dX0_begins_33 : decode cX0_begins 33 = .ok (.baload, 1) := by decide +kernel
theorem dX0_begins_34 : decode cX0_begins 34 = .ok (.invokevirtual 72, 3) := by decide +kernel
theorem dX0_begins_37 : decode cX0_begins 37 = .ok (.aload_n 0, 1) := by decide +kernel
theorem dX0_begins_38 : decode cX0_begins 38 = .ok (.getfield 33, 3) := by decide +kernel
theorem dX0_begins_41 : decode cX0_begins 41 = .ok (.iload_n 2, 1) := by decide +kernel
theorem dX0_begins_42 : decode cX0_begins 42 = .ok (.baload, 1) := by decide +kernel
theorem dX0_begins_43 : decode cX0_begins 43 = .ok (.iload_n 1, 1) := by decide +kernel
theorem dX0_begins_44 : decode cX0_begins 44 = .ok (.if_icmp .ne 19, 3) := by decide +kernel
theorem dX0_begins_47 : decode cX0_begins 47 = .ok (.aload_n 0, 1) := by decide +kernel
theorem dX0_begins_48 : decode cX0_begins 48 = .ok (.getfield 26, 3) := by decide +kernel
theorem dX0_begins_51 : decode cX0_begins 51 = .ok (.iload_n 2, 1) := by decide +kernel
theorem dX0_begins_52 : decode cX0_begins 52 = .ok (.iconst 1, 1) := by decide +kernel
theorem dX0_begins_53 : decode cX0_begins 53 = .ok (.iadd, 1) := by decide +kernel
theorem dX0_begins_54 : decode cX0_begins 54 = .ok (.iaload, 1) := by decide +kernel
theorem dX0_begins_55 : decode cX0_begins 55 = .ok (.aload_n 0, 1) := by decide +kernel
theorem dX0_begins_56 : decode cX0_begins 56 = .ok (.getfield 13, 3) := by decide +kernel
theorem dX0_begins_59 : decode cX0_begins 59 = .ok (.iload_n 1, 1) := by decide +kernel
theorem dX0_begins_60 : decode cX0_begins 60 = .ok (.saload, 1) := by decide +kernel
theorem dX0_begins_61 : decode cX0_begins 61 = .ok (.isub, 1) := by decide +kernel
theorem dX0_begins_62 : decode cX0_begins 62 = .ok (.ireturn, 1) := by decide +kernel
theorem dX0_begins_63 : decode cX0_begins 63 = .ok (.iinc 2 1, 3) := by decide +kernel
theorem dX0_begins_66 : decode cX0_begins 66 = .ok (.goto (-46), 3) := by decide +kernel
theorem dX0_begins_69 : decode cX0_begins 69 = .ok (.iconst (-1), 1) := by decide +kernel
theorem dX0_begins_70 : decode cX0_begins 70 = .ok (.ireturn, 1) := by decide +kernel
abbrev cX0_leastWith : ByteArray := prog_1_method_25_code
def yX0_leastWith : MethodName := ⟨RX0, "leastWith", "(II)I"⟩
theorem dX0_leastWith_0 : decode cX0_leastWith 0 = .ok (.aload_n 0, 1) := by decide +kernel
theorem dX0_leastWith_1 : decode cX0_leastWith 1 = .ok (.iload_n 1, 1) := by decide +kernel
theorem dX0_leastWith_2 : decode cX0_leastWith 2 = .ok (.invokevirtual 48, 3) := by decide +kernel
theorem dX0_leastWith_5 : decode cX0_leastWith 5 = .ok (.ifCond .eq 16, 3) := by decide +kernel
theorem dX0_leastWith_8 : decode cX0_leastWith 8 = .ok (.aload_n 0, 1) := by decide +kernel
theorem dX0_leastWith_9 : decode cX0_leastWith 9 = .ok (.iload_n 2, 1) := by decide +kernel
theorem dX0_leastWith_10 : decode cX0_leastWith 10 = .ok (.invokevirtual 48, 3) := by decide +kernel
theorem dX0_leastWith_13 : decode cX0_leastWith 13 = .ok (.ifCond .eq 8, 3) := by decide +kernel
theorem dX0_leastWith_16 : decode cX0_leastWith 16 = .ok (.iload_n 1, 1) := by decide +kernel
theorem dX0_leastWith_17 : decode cX0_leastWith 17 = .ok (.iload_n 2, 1) := by decide +kernel
theorem dX0_leastWith_18 : decode cX0_leastWith 18 = .ok (.if_icmp .ne 5, 3) := by decide +kernel
theorem dX0_leastWith_21 : decode cX0_leastWith 21 = .ok (.iconst (-1), 1) := by decide +kernel
theorem dX0_leastWith_22 : decode cX0_leastWith 22 = .ok (.ireturn, 1) := by decide +kernel
theorem dX0_leastWith_23 : decode cX0_leastWith 23 = .ok (.aload_n 0, 1) := by decide +kernel
theorem dX0_leastWith_24 : decode cX0_leastWith 24 = .ok (.invokevirtual 83, 3) := by decide +kernel
theorem dX0_leastWith_27 : decode cX0_leastWith 27 = .ok (.aload_n 0, 1) := by decide +kernel
theorem dX0_leastWith_28 : decode cX0_leastWith 28 = .ok (.iconst 0, 1) := by decide +kernel
theorem dX0_leastWith_29 : decode cX0_leastWith 29 = .ok (.iload_n 1, 1) := by decide +kernel
theorem dX0_leastWith_30 : decode cX0_leastWith 30 = .ok (.iload_n 2, 1) := by decide +kernel
theorem dX0_leastWith_31 : decode cX0_leastWith 31 = .ok (.invokevirtual 86, 3) := by decide +kernel
theorem dX0_leastWith_34 : decode cX0_leastWith 34 = .ok (.ireturn, 1) := by decide +kernel
abbrev cX0_leastFirst : ByteArray := prog_1_method_26_code
def yX0_leastFirst : MethodName := ⟨RX0, "leastFirst", "(I)I"⟩
theorem dX0_leastFirst_0 : decode cX0_leastFirst 0 = .ok (.aload_n 0, 1) := by decide +kernel
theorem dX0_leastFirst_1 : decode cX0_leastFirst 1 = .ok (.iload_n 1, 1) := by decide +kernel
theorem dX0_leastFirst_2 : decode cX0_leastFirst 2 = .ok (.invokevirtual 48, 3) := by decide +kernel
theorem dX0_leastFirst_5 : decode cX0_leastFirst 5 = .ok (.ifCond .ne 5, 3) := by decide +kernel
theorem dX0_leastFirst_8 : decode cX0_leastFirst 8 = .ok (.iconst (-1), 1) := by decide +kernel
theorem dX0_leastFirst_9 : decode cX0_leastFirst 9 = .ok (.ireturn, 1) := by decide +kernel
theorem dX0_leastFirst_10 : decode cX0_leastFirst 10 = .ok (.aload_n 0, 1) := by decide +kernel
theorem dX0_leastFirst_11 : decode cX0_leastFirst 11 = .ok (.invokevirtual 83, 3) := by decide +kernel
theorem dX0_leastFirst_14 : decode cX0_leastFirst 14 = .ok (.aload_n 0, 1) := by decide +kernel
theorem dX0_leastFirst_15 : decode cX0_leastFirst 15 = .ok (.iconst 0, 1) := by decide +kernel
theorem dX0_leastFirst_16 : decode cX0_leastFirst 16 = .ok (.iload_n 1, 1) := by decide +kernel
theorem dX0_leastFirst_17 : decode cX0_leastFirst 17 = .ok (.invokevirtual 72, 3) := by decide +kernel
theorem dX0_leastFirst_20 : decode cX0_leastFirst 20 = .ok (.aload_n 0, 1) := by decide +kernel
theorem dX0_leastFirst_21 : decode cX0_leastFirst 21 = .ok (.iconst 1, 1) := by decide +kernel
theorem dX0_leastFirst_22 : decode cX0_leastFirst 22 = .ok (.iconst (-1), 1) := by decide +kernel
theorem dX0_leastFirst_23 : decode cX0_leastFirst 23 = .ok (.iconst (-1), 1) := by decide +kernel
theorem dX0_leastFirst_24 : decode cX0_leastFirst 24 = .ok (.invokevirtual 86, 3) := by decide +kernel
theorem dX0_leastFirst_27 : decode cX0_leastFirst 27 = .ok (.ireturn, 1) := by decide +kernel
abbrev cX0_interrupted : ByteArray := prog_1_method_27_code
def yX0_interrupted : MethodName := ⟨RX0, "interrupted", "()I"⟩
theorem dX0_interrupted_0 : decode cX0_interrupted 0 = .ok (.aload_n 0, 1) := by decide +kernel
theorem dX0_interrupted_1 : decode cX0_interrupted 1 = .ok (.aload_n 0, 1) := by decide +kernel
theorem dX0_interrupted_2 : decode cX0_interrupted 2 = .ok (.getfield 36, 3) := by decide +kernel
theorem dX0_interrupted_5 : decode cX0_interrupted 5 = .ok (.iconst 0, 1) := by decide +kernel
theorem dX0_interrupted_6 : decode cX0_interrupted 6 = .ok (.invokevirtual 80, 3) := by decide +kernel
theorem dX0_interrupted_9 : decode cX0_interrupted 9 = .ok (.ireturn, 1) := by decide +kernel
abbrev cX0_tailFor : ByteArray := prog_1_method_28_code
def yX0_tailFor : MethodName := ⟨RX0, "tailFor", "(II)I"⟩
theorem dX0_tailFor_0 : decode cX0_tailFor 0 = .ok (.aload_n 0, 1) := by decide +kernel
theorem dX0_tailFor_1 : decode cX0_tailFor 1 = .ok (.iload_n 1, 1) := by decide +kernel
theorem dX0_tailFor_2 : decode cX0_tailFor 2 = .ok (.invokevirtual 48, 3) := by decide +kernel
theorem dX0_tailFor_5 : decode cX0_tailFor 5 = .ok (.ifCond .ne 5, 3) := by decide +kernel
theorem dX0_tailFor_8 : decode cX0_tailFor 8 = .ok (.iconst (-1), 1) := by decide +kernel
theorem dX0_tailFor_9 : decode cX0_tailFor 9 = .ok (.ireturn, 1) := by decide +kernel
theorem dX0_tailFor_10 : decode cX0_tailFor 10 = .ok (.aload_n 0, 1) := by decide +kernel
theorem dX0_tailFor_11 : decode cX0_tailFor 11 = .ok (.getfield 16, 3) := by decide +kernel
theorem dX0_tailFor_14 : decode cX0_tailFor 14 = .ok (.iload_n 1, 1) := by decide +kernel
theorem dX0_tailFor_15 : decode cX0_tailFor 15 = .ok (.saload, 1) := by decide +kernel
theorem dX0_tailFor_16 : decode cX0_tailFor 16 = .ok (.istore_n 3, 1) := by decide +kernel
theorem dX0_tailFor_17 : decode cX0_tailFor 17 = .ok (.iconst (-1), 1) := by decide +kernel
theorem dX0_tailFor_18 : decode cX0_tailFor 18 = .ok (.istore 4, 2) := by decide +kernel
theorem dX0_tailFor_20 : decode cX0_tailFor 20 = .ok (.sipush 200, 3) := by decide +kernel
theorem dX0_tailFor_23 : decode cX0_tailFor 23 = .ok (.istore 5, 2) := by decide +kernel
theorem dX0_tailFor_25 : decode cX0_tailFor 25 = .ok (.iconst 0, 1) := by decide +kernel
theorem dX0_tailFor_26 : decode cX0_tailFor 26 = .ok (.istore 6, 2) := by decide +kernel
theorem dX0_tailFor_28 : decode cX0_tailFor 28 = .ok (.iload 6, 2) := by decide +kernel
theorem dX0_tailFor_30 : decode cX0_tailFor 30 = .ok (.bipush 9, 2) := by decide +kernel
theorem dX0_tailFor_32 : decode cX0_tailFor 32 = .ok (.if_icmp .ge 57, 3) := by decide +kernel
theorem dX0_tailFor_35 : decode cX0_tailFor 35 = .ok (.iload 4, 2) := by decide +kernel
theorem dX0_tailFor_37 : decode cX0_tailFor 37 = .ok (.iload 5, 2) := by decide +kernel
theorem dX0_tailFor_39 : decode cX0_tailFor 39 = .ok (.if_icmp .ge 50, 3) := by decide +kernel
theorem dX0_tailFor_42 : decode cX0_tailFor 42 = .ok (.iload 4, 2) := by decide +kernel
theorem dX0_tailFor_44 : decode cX0_tailFor 44 = .ok (.iload 5, 2) := by decide +kernel
theorem dX0_tailFor_46 : decode cX0_tailFor 46 = .ok (.iadd, 1) := by decide +kernel
theorem dX0_tailFor_47 : decode cX0_tailFor 47 = .ok (.iconst 1, 1) := by decide +kernel
theorem dX0_tailFor_48 : decode cX0_tailFor 48 = .ok (.iadd, 1) := by decide +kernel
theorem dX0_tailFor_49 : decode cX0_tailFor 49 = .ok (.iconst 1, 1) := by decide +kernel
theorem dX0_tailFor_50 : decode cX0_tailFor 50 = .ok (.ishr, 1) := by decide +kernel
theorem dX0_tailFor_51 : decode cX0_tailFor 51 = .ok (.istore 7, 2) := by decide +kernel
theorem dX0_tailFor_53 : decode cX0_tailFor 53 = .ok (.aload_n 0, 1) := by decide +kernel
theorem dX0_tailFor_54 : decode cX0_tailFor 54 = .ok (.getfield 16, 3) := by decide +kernel
theorem dX0_tailFor_57 : decode cX0_tailFor 57 = .ok (.iload_n 1, 1) := by decide +kernel
theorem dX0_tailFor_58 : decode cX0_tailFor 58 = .ok (.iload 7, 2) := by decide +kernel
theorem dX0_tailFor_60 : decode cX0_tailFor 60 = .ok (.i2s, 1) := by decide +kernel
theorem dX0_tailFor_61 : decode cX0_tailFor 61 = .ok (.sastore, 1) := by decide +kernel
theorem dX0_tailFor_62 : decode cX0_tailFor 62 = .ok (.aload_n 0, 1) := by decide +kernel
theorem dX0_tailFor_63 : decode cX0_tailFor 63 = .ok (.invokevirtual 99, 3) := by decide +kernel
theorem dX0_tailFor_66 : decode cX0_tailFor 66 = .ok (.iload_n 2, 1) := by decide +kernel
theorem dX0_tailFor_67 : decode cX0_tailFor 67 = .ok (.if_icmp .gt 10, 3) := by decide +kernel
theorem dX0_tailFor_70 : decode cX0_tailFor 70 = .ok (.iload 7, 2) := by decide +kernel
theorem dX0_tailFor_72 : decode cX0_tailFor 72 = .ok (.istore 4, 2) := by decide +kernel
theorem dX0_tailFor_74 : decode cX0_tailFor 74 = .ok (.goto 9, 3) := by decide +kernel
theorem dX0_tailFor_77 : decode cX0_tailFor 77 = .ok (.iload 7, 2) := by decide +kernel
theorem dX0_tailFor_79 : decode cX0_tailFor 79 = .ok (.iconst 1, 1) := by decide +kernel
theorem dX0_tailFor_80 : decode cX0_tailFor 80 = .ok (.isub, 1) := by decide +kernel
theorem dX0_tailFor_81 : decode cX0_tailFor 81 = .ok (.istore 5, 2) := by decide +kernel
theorem dX0_tailFor_83 : decode cX0_tailFor 83 = .ok (.iinc 6 1, 3) := by decide +kernel
theorem dX0_tailFor_86 : decode cX0_tailFor 86 = .ok (.goto (-58), 3) := by decide +kernel
theorem dX0_tailFor_89 : decode cX0_tailFor 89 = .ok (.aload_n 0, 1) := by decide +kernel
theorem dX0_tailFor_90 : decode cX0_tailFor 90 = .ok (.getfield 16, 3) := by decide +kernel
theorem dX0_tailFor_93 : decode cX0_tailFor 93 = .ok (.iload_n 1, 1) := by decide +kernel
theorem dX0_tailFor_94 : decode cX0_tailFor 94 = .ok (.iload_n 3, 1) := by decide +kernel
theorem dX0_tailFor_95 : decode cX0_tailFor 95 = .ok (.sastore, 1) := by decide +kernel
theorem dX0_tailFor_96 : decode cX0_tailFor 96 = .ok (.iload 4, 2) := by decide +kernel
theorem dX0_tailFor_98 : decode cX0_tailFor 98 = .ok (.ifCond .ge 7, 3) := by decide +kernel
theorem dX0_tailFor_101 : decode cX0_tailFor 101 = .ok (.iconst (-1), 1) := by decide +kernel
theorem dX0_tailFor_102 : decode cX0_tailFor 102 = .ok (.goto 5, 3) := by decide +kernel
theorem dX0_tailFor_105 : decode cX0_tailFor 105 = .ok (.iload 4, 2) := by decide +kernel
theorem dX0_tailFor_107 : decode cX0_tailFor 107 = .ok (.ireturn, 1) := by decide +kernel
abbrev cX0_plainLeast : ByteArray := prog_1_method_21_code
def yX0_plainLeast : MethodName := ⟨RX0, "plainLeast", "()I"⟩
theorem dX0_plainLeast_0 : decode cX0_plainLeast 0 = .ok (.aload_n 0, 1) := by decide +kernel
theorem dX0_plainLeast_1 : decode cX0_plainLeast 1 = .ok (.invokevirtual 83, 3) := by decide +kernel
theorem dX0_plainLeast_4 : decode cX0_plainLeast 4 = .ok (.aload_n 0, 1) := by decide +kernel
theorem dX0_plainLeast_5 : decode cX0_plainLeast 5 = .ok (.iconst 0, 1) := by decide +kernel
theorem dX0_plainLeast_6 : decode cX0_plainLeast 6 = .ok (.iconst (-1), 1) := by decide +kernel
theorem dX0_plainLeast_7 : decode cX0_plainLeast 7 = .ok (.iconst (-1), 1) := by decide +kernel
theorem dX0_plainLeast_8 : decode cX0_plainLeast 8 = .ok (.invokevirtual 86, 3) := by decide +kernel
theorem dX0_plainLeast_11 : decode cX0_plainLeast 11 = .ok (.ireturn, 1) := by decide +kernel
abbrev cX0_releaseFor : ByteArray := prog_1_method_29_code
def yX0_releaseFor : MethodName := ⟨RX0, "releaseFor", "(II)I"⟩
theorem dX0_releaseFor_0 : decode cX0_releaseFor 0 = .ok (.aload_n 0, 1) := by decide +kernel
theorem dX0_releaseFor_1 : decode cX0_releaseFor 1 = .ok (.iload_n 1, 1) := by decide +kernel
theorem dX0_releaseFor_2 : decode cX0_releaseFor 2 = .ok (.invokevirtual 48, 3) := by decide +kernel
theorem dX0_releaseFor_5 : decode cX0_releaseFor 5 = .ok (.ifCond .ne 5, 3) := by decide +kernel
theorem dX0_releaseFor_8 : decode cX0_releaseFor 8 = .ok (.iconst (-1), 1) := by decide +kernel
theorem dX0_releaseFor_9 : decode cX0_releaseFor 9 = .ok (.ireturn, 1) := by decide +kernel
theorem dX0_releaseFor_10 : decode cX0_releaseFor 10 = .ok (.aload_n 0, 1) := by decide +kernel
theorem dX0_releaseFor_11 : decode cX0_releaseFor 11 = .ok (.getfield 7, 3) := by decide +kernel
theorem dX0_releaseFor_14 : decode cX0_releaseFor 14 = .ok (.iload_n 1, 1) := by decide +kernel
theorem dX0_releaseFor_15 : decode cX0_releaseFor 15 = .ok (.saload, 1) := by decide +kernel
theorem dX0_releaseFor_16 : decode cX0_releaseFor 16 = .ok (.istore_n 3, 1) := by decide +kernel
theorem dX0_releaseFor_17 : decode cX0_releaseFor 17 = .ok (.iconst (-1), 1) := by decide +kernel
theorem dX0_releaseFor_18 : decode cX0_releaseFor 18 = .ok (.istore 4, 2) := by decide +kernel
theorem dX0_releaseFor_20 : decode cX0_releaseFor 20 = .ok (.sipush 200, 3) := by decide +kernel
theorem dX0_releaseFor_23 : decode cX0_releaseFor 23 = .ok (.istore 5, 2) := by decide +kernel
theorem dX0_releaseFor_25 : decode cX0_releaseFor 25 = .ok (.iconst 0, 1) := by decide +kernel
theorem dX0_releaseFor_26 : decode cX0_releaseFor 26 = .ok (.istore 6, 2) := by decide +kernel
theorem dX0_releaseFor_28 : decode cX0_releaseFor 28 = .ok (.iload 6, 2) := by decide +kernel
theorem dX0_releaseFor_30 : decode cX0_releaseFor 30 = .ok (.bipush 9, 2) := by decide +kernel
theorem dX0_releaseFor_32 : decode cX0_releaseFor 32 = .ok (.if_icmp .ge 57, 3) := by decide +kernel
theorem dX0_releaseFor_35 : decode cX0_releaseFor 35 = .ok (.iload 4, 2) := by decide +kernel
theorem dX0_releaseFor_37 : decode cX0_releaseFor 37 = .ok (.iload 5, 2) := by decide +kernel
theorem dX0_releaseFor_39 : decode cX0_releaseFor 39 = .ok (.if_icmp .ge 50, 3) := by decide +kernel
theorem dX0_releaseFor_42 : decode cX0_releaseFor 42 = .ok (.iload 4, 2) := by decide +kernel
theorem dX0_releaseFor_44 : decode cX0_releaseFor 44 = .ok (.iload 5, 2) := by decide +kernel
theorem dX0_releaseFor_46 : decode cX0_releaseFor 46 = .ok (.iadd, 1) := by decide +kernel
theorem dX0_releaseFor_47 : decode cX0_releaseFor 47 = .ok (.iconst 1, 1) := by decide +kernel
theorem dX0_releaseFor_48 : decode cX0_releaseFor 48 = .ok (.iadd, 1) := by decide +kernel
theorem dX0_releaseFor_49 : decode cX0_releaseFor 49 = .ok (.iconst 1, 1) := by decide +kernel
theorem dX0_releaseFor_50 : decode cX0_releaseFor 50 = .ok (.ishr, 1) := by decide +kernel
theorem dX0_releaseFor_51 : decode cX0_releaseFor 51 = .ok (.istore 7, 2) := by decide +kernel
theorem dX0_releaseFor_53 : decode cX0_releaseFor 53 = .ok (.aload_n 0, 1) := by decide +kernel
theorem dX0_releaseFor_54 : decode cX0_releaseFor 54 = .ok (.getfield 7, 3) := by decide +kernel
theorem dX0_releaseFor_57 : decode cX0_releaseFor 57 = .ok (.iload_n 1, 1) := by decide +kernel
theorem dX0_releaseFor_58 : decode cX0_releaseFor 58 = .ok (.iload 7, 2) := by decide +kernel
theorem dX0_releaseFor_60 : decode cX0_releaseFor 60 = .ok (.i2s, 1) := by decide +kernel
theorem dX0_releaseFor_61 : decode cX0_releaseFor 61 = .ok (.sastore, 1) := by decide +kernel
theorem dX0_releaseFor_62 : decode cX0_releaseFor 62 = .ok (.aload_n 0, 1) := by decide +kernel
theorem dX0_releaseFor_63 : decode cX0_releaseFor 63 = .ok (.invokevirtual 99, 3) := by decide +kernel
theorem dX0_releaseFor_66 : decode cX0_releaseFor 66 = .ok (.iload_n 2, 1) := by decide +kernel
theorem dX0_releaseFor_67 : decode cX0_releaseFor 67 = .ok (.if_icmp .gt 10, 3) := by decide +kernel
theorem dX0_releaseFor_70 : decode cX0_releaseFor 70 = .ok (.iload 7, 2) := by decide +kernel
theorem dX0_releaseFor_72 : decode cX0_releaseFor 72 = .ok (.istore 4, 2) := by decide +kernel
theorem dX0_releaseFor_74 : decode cX0_releaseFor 74 = .ok (.goto 9, 3) := by decide +kernel
theorem dX0_releaseFor_77 : decode cX0_releaseFor 77 = .ok (.iload 7, 2) := by decide +kernel
theorem dX0_releaseFor_79 : decode cX0_releaseFor 79 = .ok (.iconst 1, 1) := by decide +kernel
theorem dX0_releaseFor_80 : decode cX0_releaseFor 80 = .ok (.isub, 1) := by decide +kernel
theorem dX0_releaseFor_81 : decode cX0_releaseFor 81 = .ok (.istore 5, 2) := by decide +kernel
theorem dX0_releaseFor_83 : decode cX0_releaseFor 83 = .ok (.iinc 6 1, 3) := by decide +kernel
theorem dX0_releaseFor_86 : decode cX0_releaseFor 86 = .ok (.goto (-58), 3) := by decide +kernel
theorem dX0_releaseFor_89 : decode cX0_releaseFor 89 = .ok (.aload_n 0, 1) := by decide +kernel
theorem dX0_releaseFor_90 : decode cX0_releaseFor 90 = .ok (.getfield 7, 3) := by decide +kernel
theorem dX0_releaseFor_93 : decode cX0_releaseFor 93 = .ok (.iload_n 1, 1) := by decide +kernel
theorem dX0_releaseFor_94 : decode cX0_releaseFor 94 = .ok (.iload_n 3, 1) := by decide +kernel
theorem dX0_releaseFor_95 : decode cX0_releaseFor 95 = .ok (.sastore, 1) := by decide +kernel
theorem dX0_releaseFor_96 : decode cX0_releaseFor 96 = .ok (.iload 4, 2) := by decide +kernel
theorem dX0_releaseFor_98 : decode cX0_releaseFor 98 = .ok (.ifCond .ge 7, 3) := by decide +kernel
theorem dX0_releaseFor_101 : decode cX0_releaseFor 101 = .ok (.iconst (-1), 1) := by decide +kernel
theorem dX0_releaseFor_102 : decode cX0_releaseFor 102 = .ok (.goto 5, 3) := by decide +kernel
theorem dX0_releaseFor_105 : decode cX0_releaseFor 105 = .ok (.iload 4, 2) := by decide +kernel
theorem dX0_releaseFor_107 : decode cX0_releaseFor 107 = .ok (.ireturn, 1) := by decide +kernel
theorem q26 : (Jvm.Cond.initialized "HeadTail") ∈ lw_all := lw_g (lw_at lw_m1 1 rfl) rfl
theorem q29 : (Jvm.Cond.instantiable "HeadTail" (11 : Nat)) ∈ lw_all := lw_g (lw_at lw_m1 4 rfl) rfl
theorem q31 : (Jvm.Cond.instanceMethod ({ cls := "HeadTail", name := "<init>", desc := "()V" } : Jvm.MethodName)) ∈ lw_all := lw_g (lw_at lw_m1 6 rfl) rfl
theorem q32 : (Jvm.Cond.code ({ cls := "HeadTail", name := "<init>", desc := "()V" } : Jvm.MethodName) prog_1_method_1_code (1 : Nat) (Option.none : Option Jvm.ClassFile.FieldType)) ∈ lw_all := lw_g (lw_at lw_m1 7 rfl) rfl
theorem q33 : (Jvm.Cond.methodLink "HeadTail" (1 : Nat) ({ cls := "java/lang/Object", name := "<init>", desc := "()V" } : Jvm.MethodName)) ∈ lw_all := lw_g (lw_at lw_m1 8 rfl) rfl
theorem q36 : (Jvm.Cond.fieldLink "HeadTail" (36 : Nat) "HeadTail" "present" "I") ∈ lw_all := lw_g (lw_at lw_m1 11 rfl) rfl
theorem q37 : (Jvm.Cond.fieldLink "HeadTail" (7 : Nat) "HeadTail" "releases" "[S") ∈ lw_all := lw_g (lw_at lw_m1 12 rfl) rfl
theorem q38 : (Jvm.Cond.fieldLink "HeadTail" (13 : Nat) "HeadTail" "lengths" "[S") ∈ lw_all := lw_g (lw_at lw_m1 13 rfl) rfl
theorem q39 : (Jvm.Cond.fieldLink "HeadTail" (16 : Nat) "HeadTail" "tails" "[S") ∈ lw_all := lw_g (lw_at lw_m1 14 rfl) rfl
theorem q40 : (Jvm.Cond.fieldLink "HeadTail" (19 : Nat) "HeadTail" "left" "[S") ∈ lw_all := lw_g (lw_at lw_m1 15 rfl) rfl
theorem q41 : (Jvm.Cond.fieldLink "HeadTail" (22 : Nat) "HeadTail" "tried" "[B") ∈ lw_all := lw_g (lw_at lw_m1 16 rfl) rfl
theorem q42 : (Jvm.Cond.fieldLink "HeadTail" (26 : Nat) "HeadTail" "doneAt" "[I") ∈ lw_all := lw_g (lw_at lw_m1 17 rfl) rfl
theorem q43 : (Jvm.Cond.fieldLink "HeadTail" (30 : Nat) "HeadTail" "lengthAt" "[I") ∈ lw_all := lw_g (lw_at lw_m1 18 rfl) rfl
theorem q44 : (Jvm.Cond.fieldLink "HeadTail" (40 : Nat) "HeadTail" "known" "Z") ∈ lw_all := lw_g (lw_at lw_m1 19 rfl) rfl
theorem q45 : (Jvm.Cond.fieldLink "HeadTail" (90 : Nat) "HeadTail" "leastLength" "I") ∈ lw_all := lw_g (lw_at lw_m1 20 rfl) rfl
theorem q46 : (Jvm.Cond.fieldLink "HeadTail" (33 : Nat) "HeadTail" "bestOrder" "[B") ∈ lw_all := lw_g (lw_at lw_m1 21 rfl) rfl
theorem q47 : (Jvm.Cond.lays "HeadTail" "HeadTail" "present" "I") ∈ lw_all := lw_g (lw_at lw_m1 22 rfl) rfl
theorem q48 : (Jvm.Cond.soleField "HeadTail" "present") ∈ lw_all := lw_g (lw_at lw_m1 23 rfl) rfl
theorem q49 : (Jvm.Cond.laysFinal "HeadTail" "HeadTail" "releases" "[S") ∈ lw_all := lw_g (lw_at lw_m1 24 rfl) rfl
theorem q50 : (Jvm.Cond.soleField "HeadTail" "releases") ∈ lw_all := lw_g (lw_at lw_m1 25 rfl) rfl
theorem q51 : (Jvm.Cond.laysFinal "HeadTail" "HeadTail" "lengths" "[S") ∈ lw_all := lw_g (lw_at lw_m1 26 rfl) rfl
theorem q52 : (Jvm.Cond.soleField "HeadTail" "lengths") ∈ lw_all := lw_g (lw_at lw_m1 27 rfl) rfl
theorem q53 : (Jvm.Cond.laysFinal "HeadTail" "HeadTail" "tails" "[S") ∈ lw_all := lw_g (lw_at lw_m1 28 rfl) rfl
theorem q54 : (Jvm.Cond.soleField "HeadTail" "tails") ∈ lw_all := lw_g (lw_at lw_m1 29 rfl) rfl
theorem q55 : (Jvm.Cond.laysFinal "HeadTail" "HeadTail" "left" "[S") ∈ lw_all := lw_g (lw_at lw_m1 30 rfl) rfl
theorem q56 : (Jvm.Cond.soleField "HeadTail" "left") ∈ lw_all := lw_g (lw_at lw_m1 31 rfl) rfl
theorem q57 : (Jvm.Cond.laysFinal "HeadTail" "HeadTail" "tried" "[B") ∈ lw_all := lw_g (lw_at lw_m1 32 rfl) rfl
theorem q58 : (Jvm.Cond.soleField "HeadTail" "tried") ∈ lw_all := lw_g (lw_at lw_m1 33 rfl) rfl
theorem q59 : (Jvm.Cond.laysFinal "HeadTail" "HeadTail" "doneAt" "[I") ∈ lw_all := lw_g (lw_at lw_m1 34 rfl) rfl
theorem q60 : (Jvm.Cond.soleField "HeadTail" "doneAt") ∈ lw_all := lw_g (lw_at lw_m1 35 rfl) rfl
theorem q61 : (Jvm.Cond.laysFinal "HeadTail" "HeadTail" "lengthAt" "[I") ∈ lw_all := lw_g (lw_at lw_m1 36 rfl) rfl
theorem q62 : (Jvm.Cond.soleField "HeadTail" "lengthAt") ∈ lw_all := lw_g (lw_at lw_m1 37 rfl) rfl
theorem q63 : (Jvm.Cond.lays "HeadTail" "HeadTail" "known" "Z") ∈ lw_all := lw_g (lw_at lw_m1 38 rfl) rfl
theorem q64 : (Jvm.Cond.soleField "HeadTail" "known") ∈ lw_all := lw_g (lw_at lw_m1 39 rfl) rfl
theorem q65 : (Jvm.Cond.lays "HeadTail" "HeadTail" "leastLength" "I") ∈ lw_all := lw_g (lw_at lw_m1 40 rfl) rfl
theorem q66 : (Jvm.Cond.soleField "HeadTail" "leastLength") ∈ lw_all := lw_g (lw_at lw_m1 41 rfl) rfl
theorem q67 : (Jvm.Cond.laysFinal "HeadTail" "HeadTail" "bestOrder" "[B") ∈ lw_all := lw_g (lw_at lw_m1 42 rfl) rfl
theorem q68 : (Jvm.Cond.soleField "HeadTail" "bestOrder") ∈ lw_all := lw_g (lw_at lw_m1 43 rfl) rfl
theorem q69 : (Jvm.Cond.superclass "HeadTail" "java/lang/Object") ∈ lw_all := lw_g (lw_at lw_m1 44 rfl) rfl
theorem q74 : (Jvm.Cond.instanceMethod ({ cls := "HeadTail", name := "add", desc := "(III)I" } : Jvm.MethodName)) ∈ lw_all := lw_g (lw_at lw_m1 49 rfl) rfl
theorem q75 : (Jvm.Cond.selects "HeadTail" ({ cls := "HeadTail", name := "add", desc := "(III)I" } : Jvm.MethodName) ({ cls := "HeadTail", name := "add", desc := "(III)I" } : Jvm.MethodName)) ∈ lw_all := lw_g (lw_at lw_m1 50 rfl) rfl
theorem q76 : (Jvm.Cond.code ({ cls := "HeadTail", name := "add", desc := "(III)I" } : Jvm.MethodName) prog_1_method_5_code (5 : Nat) (Option.some Jvm.ClassFile.FieldType.int)) ∈ lw_all := lw_g (lw_at lw_m1 51 rfl) rfl
theorem q77 : (Jvm.Cond.methodLink "HeadTail" (44 : Nat) ({ cls := "HeadTail", name := "numbersOk", desc := "(III)Z" } : Jvm.MethodName)) ∈ lw_all := lw_g (lw_at lw_m1 52 rfl) rfl
theorem q78 : (Jvm.Cond.static ({ cls := "HeadTail", name := "numbersOk", desc := "(III)Z" } : Jvm.MethodName)) ∈ lw_all := lw_g (lw_at lw_m1 53 rfl) rfl
theorem q79 : (Jvm.Cond.code ({ cls := "HeadTail", name := "numbersOk", desc := "(III)Z" } : Jvm.MethodName) prog_1_method_3_code (3 : Nat) (Option.some Jvm.ClassFile.FieldType.boolean)) ∈ lw_all := lw_g (lw_at lw_m1 54 rfl) rfl
theorem q80 : (Jvm.Cond.methodLink "HeadTail" (48 : Nat) ({ cls := "HeadTail", name := "has", desc := "(I)Z" } : Jvm.MethodName)) ∈ lw_all := lw_g (lw_at lw_m1 55 rfl) rfl
theorem q81 : (Jvm.Cond.privateMethod ({ cls := "HeadTail", name := "has", desc := "(I)Z" } : Jvm.MethodName)) ∈ lw_tbl := lw_at lw_m1 56 rfl
theorem q82 : (Jvm.Cond.instanceMethod ({ cls := "HeadTail", name := "has", desc := "(I)Z" } : Jvm.MethodName)) ∈ lw_all := lw_g (lw_at lw_m1 57 rfl) rfl
theorem q83 : (Jvm.Cond.code ({ cls := "HeadTail", name := "has", desc := "(I)Z" } : Jvm.MethodName) prog_1_method_2_code (2 : Nat) (Option.some Jvm.ClassFile.FieldType.boolean)) ∈ lw_all := lw_g (lw_at lw_m1 58 rfl) rfl
theorem q84 : (Jvm.Cond.methodLink "HeadTail" (52 : Nat) ({ cls := "HeadTail", name := "put", desc := "(IIII)V" } : Jvm.MethodName)) ∈ lw_all := lw_g (lw_at lw_m1 59 rfl) rfl
theorem q85 : (Jvm.Cond.privateMethod ({ cls := "HeadTail", name := "put", desc := "(IIII)V" } : Jvm.MethodName)) ∈ lw_tbl := lw_at lw_m1 60 rfl
theorem q86 : (Jvm.Cond.instanceMethod ({ cls := "HeadTail", name := "put", desc := "(IIII)V" } : Jvm.MethodName)) ∈ lw_all := lw_g (lw_at lw_m1 61 rfl) rfl
theorem q87 : (Jvm.Cond.code ({ cls := "HeadTail", name := "put", desc := "(IIII)V" } : Jvm.MethodName) prog_1_method_4_code (5 : Nat) (Option.none : Option Jvm.ClassFile.FieldType)) ∈ lw_all := lw_g (lw_at lw_m1 62 rfl) rfl
theorem q89 : (Jvm.Cond.instanceMethod ({ cls := "HeadTail", name := "remove", desc := "(I)Z" } : Jvm.MethodName)) ∈ lw_all := lw_g (lw_at lw_m1 64 rfl) rfl
theorem q90 : (Jvm.Cond.selects "HeadTail" ({ cls := "HeadTail", name := "remove", desc := "(I)Z" } : Jvm.MethodName) ({ cls := "HeadTail", name := "remove", desc := "(I)Z" } : Jvm.MethodName)) ∈ lw_all := lw_g (lw_at lw_m1 65 rfl) rfl
theorem q91 : (Jvm.Cond.code ({ cls := "HeadTail", name := "remove", desc := "(I)Z" } : Jvm.MethodName) prog_1_method_6_code (2 : Nat) (Option.some Jvm.ClassFile.FieldType.boolean)) ∈ lw_all := lw_g (lw_at lw_m1 66 rfl) rfl
theorem q93 : (Jvm.Cond.instanceMethod ({ cls := "HeadTail", name := "change", desc := "(IIII)Z" } : Jvm.MethodName)) ∈ lw_all := lw_g (lw_at lw_m1 68 rfl) rfl
theorem q94 : (Jvm.Cond.selects "HeadTail" ({ cls := "HeadTail", name := "change", desc := "(IIII)Z" } : Jvm.MethodName) ({ cls := "HeadTail", name := "change", desc := "(IIII)Z" } : Jvm.MethodName)) ∈ lw_all := lw_g (lw_at lw_m1 69 rfl) rfl
theorem q95 : (Jvm.Cond.code ({ cls := "HeadTail", name := "change", desc := "(IIII)Z" } : Jvm.MethodName) prog_1_method_7_code (5 : Nat) (Option.some Jvm.ClassFile.FieldType.boolean)) ∈ lw_all := lw_g (lw_at lw_m1 70 rfl) rfl
theorem q97 : (Jvm.Cond.instanceMethod ({ cls := "HeadTail", name := "jobs", desc := "()I" } : Jvm.MethodName)) ∈ lw_all := lw_g (lw_at lw_m1 72 rfl) rfl
theorem q98 : (Jvm.Cond.selects "HeadTail" ({ cls := "HeadTail", name := "jobs", desc := "()I" } : Jvm.MethodName) ({ cls := "HeadTail", name := "jobs", desc := "()I" } : Jvm.MethodName)) ∈ lw_all := lw_g (lw_at lw_m1 73 rfl) rfl
theorem q99 : (Jvm.Cond.code ({ cls := "HeadTail", name := "jobs", desc := "()I" } : Jvm.MethodName) prog_1_method_8_code (1 : Nat) (Option.some Jvm.ClassFile.FieldType.int)) ∈ lw_all := lw_g (lw_at lw_m1 74 rfl) rfl
theorem q101 : (Jvm.Cond.instanceMethod ({ cls := "HeadTail", name := "part", desc := "(II)I" } : Jvm.MethodName)) ∈ lw_all := lw_g (lw_at lw_m1 76 rfl) rfl
theorem q102 : (Jvm.Cond.selects "HeadTail" ({ cls := "HeadTail", name := "part", desc := "(II)I" } : Jvm.MethodName) ({ cls := "HeadTail", name := "part", desc := "(II)I" } : Jvm.MethodName)) ∈ lw_all := lw_g (lw_at lw_m1 77 rfl) rfl
theorem q103 : (Jvm.Cond.code ({ cls := "HeadTail", name := "part", desc := "(II)I" } : Jvm.MethodName) prog_1_method_9_code (3 : Nat) (Option.some Jvm.ClassFile.FieldType.int)) ∈ lw_all := lw_g (lw_at lw_m1 78 rfl) rfl
theorem q105 : (Jvm.Cond.instanceMethod ({ cls := "HeadTail", name := "least", desc := "()I" } : Jvm.MethodName)) ∈ lw_all := lw_g (lw_at lw_m1 80 rfl) rfl
theorem q106 : (Jvm.Cond.selects "HeadTail" ({ cls := "HeadTail", name := "least", desc := "()I" } : Jvm.MethodName) ({ cls := "HeadTail", name := "least", desc := "()I" } : Jvm.MethodName)) ∈ lw_all := lw_g (lw_at lw_m1 81 rfl) rfl
theorem q107 : (Jvm.Cond.code ({ cls := "HeadTail", name := "least", desc := "()I" } : Jvm.MethodName) prog_1_method_22_code (1 : Nat) (Option.some Jvm.ClassFile.FieldType.int)) ∈ lw_all := lw_g (lw_at lw_m1 82 rfl) rfl
theorem q108 : (Jvm.Cond.methodLink "HeadTail" (96 : Nat) ({ cls := "HeadTail", name := "learn", desc := "()V" } : Jvm.MethodName)) ∈ lw_all := lw_g (lw_at lw_m1 83 rfl) rfl
theorem q109 : (Jvm.Cond.privateMethod ({ cls := "HeadTail", name := "learn", desc := "()V" } : Jvm.MethodName)) ∈ lw_tbl := lw_at lw_m1 84 rfl
theorem q110 : (Jvm.Cond.instanceMethod ({ cls := "HeadTail", name := "learn", desc := "()V" } : Jvm.MethodName)) ∈ lw_all := lw_g (lw_at lw_m1 85 rfl) rfl
theorem q111 : (Jvm.Cond.code ({ cls := "HeadTail", name := "learn", desc := "()V" } : Jvm.MethodName) prog_1_method_19_code (5 : Nat) (Option.none : Option Jvm.ClassFile.FieldType)) ∈ lw_all := lw_g (lw_at lw_m1 86 rfl) rfl
theorem q112 : (Jvm.Cond.methodLink "HeadTail" (83 : Nat) ({ cls := "HeadTail", name := "begin", desc := "()V" } : Jvm.MethodName)) ∈ lw_all := lw_g (lw_at lw_m1 87 rfl) rfl
theorem q113 : (Jvm.Cond.privateMethod ({ cls := "HeadTail", name := "begin", desc := "()V" } : Jvm.MethodName)) ∈ lw_tbl := lw_at lw_m1 88 rfl
theorem q114 : (Jvm.Cond.instanceMethod ({ cls := "HeadTail", name := "begin", desc := "()V" } : Jvm.MethodName)) ∈ lw_all := lw_g (lw_at lw_m1 89 rfl) rfl
theorem q115 : (Jvm.Cond.code ({ cls := "HeadTail", name := "begin", desc := "()V" } : Jvm.MethodName) prog_1_method_18_code (1 : Nat) (Option.none : Option Jvm.ClassFile.FieldType)) ∈ lw_all := lw_g (lw_at lw_m1 90 rfl) rfl
theorem q116 : (Jvm.Cond.methodLink "HeadTail" (86 : Nat) ({ cls := "HeadTail", name := "search", desc := "(III)I" } : Jvm.MethodName)) ∈ lw_all := lw_g (lw_at lw_m1 91 rfl) rfl
theorem q117 : (Jvm.Cond.privateMethod ({ cls := "HeadTail", name := "search", desc := "(III)I" } : Jvm.MethodName)) ∈ lw_tbl := lw_at lw_m1 92 rfl
theorem q118 : (Jvm.Cond.instanceMethod ({ cls := "HeadTail", name := "search", desc := "(III)I" } : Jvm.MethodName)) ∈ lw_all := lw_g (lw_at lw_m1 93 rfl) rfl
theorem q119 : (Jvm.Cond.code ({ cls := "HeadTail", name := "search", desc := "(III)I" } : Jvm.MethodName) prog_1_method_15_code (12 : Nat) (Option.some Jvm.ClassFile.FieldType.int)) ∈ lw_all := lw_g (lw_at lw_m1 94 rfl) rfl
theorem q120 : (Jvm.Cond.methodLink "HeadTail" (63 : Nat) ({ cls := "HeadTail", name := "count", desc := "()I" } : Jvm.MethodName)) ∈ lw_all := lw_g (lw_at lw_m1 95 rfl) rfl
theorem q121 : (Jvm.Cond.privateMethod ({ cls := "HeadTail", name := "count", desc := "()I" } : Jvm.MethodName)) ∈ lw_tbl := lw_at lw_m1 96 rfl
theorem q122 : (Jvm.Cond.instanceMethod ({ cls := "HeadTail", name := "count", desc := "()I" } : Jvm.MethodName)) ∈ lw_all := lw_g (lw_at lw_m1 97 rfl) rfl
theorem q123 : (Jvm.Cond.code ({ cls := "HeadTail", name := "count", desc := "()I" } : Jvm.MethodName) prog_1_method_10_code (3 : Nat) (Option.some Jvm.ClassFile.FieldType.int)) ∈ lw_all := lw_g (lw_at lw_m1 98 rfl) rfl
theorem q124 : (Jvm.Cond.constant "HeadTail" (67 : Nat) (100000 : Int32)) ∈ lw_all := lw_g (lw_at lw_m1 99 rfl) rfl
theorem q125 : (Jvm.Cond.methodLink "HeadTail" (68 : Nat) ({ cls := "HeadTail", name := "nextJob", desc := "(IIII)I" } : Jvm.MethodName)) ∈ lw_all := lw_g (lw_at lw_m1 100 rfl) rfl
theorem q126 : (Jvm.Cond.privateMethod ({ cls := "HeadTail", name := "nextJob", desc := "(IIII)I" } : Jvm.MethodName)) ∈ lw_tbl := lw_at lw_m1 101 rfl
theorem q127 : (Jvm.Cond.instanceMethod ({ cls := "HeadTail", name := "nextJob", desc := "(IIII)I" } : Jvm.MethodName)) ∈ lw_all := lw_g (lw_at lw_m1 102 rfl) rfl
theorem q128 : (Jvm.Cond.code ({ cls := "HeadTail", name := "nextJob", desc := "(IIII)I" } : Jvm.MethodName) prog_1_method_17_code (7 : Nat) (Option.some Jvm.ClassFile.FieldType.int)) ∈ lw_all := lw_g (lw_at lw_m1 103 rfl) rfl
theorem q129 : (Jvm.Cond.methodLink "HeadTail" (72 : Nat) ({ cls := "HeadTail", name := "place", desc := "(II)V" } : Jvm.MethodName)) ∈ lw_all := lw_g (lw_at lw_m1 104 rfl) rfl
theorem q130 : (Jvm.Cond.privateMethod ({ cls := "HeadTail", name := "place", desc := "(II)V" } : Jvm.MethodName)) ∈ lw_tbl := lw_at lw_m1 105 rfl
theorem q131 : (Jvm.Cond.instanceMethod ({ cls := "HeadTail", name := "place", desc := "(II)V" } : Jvm.MethodName)) ∈ lw_all := lw_g (lw_at lw_m1 106 rfl) rfl
theorem q132 : (Jvm.Cond.code ({ cls := "HeadTail", name := "place", desc := "(II)V" } : Jvm.MethodName) prog_1_method_14_code (6 : Nat) (Option.none : Option Jvm.ClassFile.FieldType)) ∈ lw_all := lw_g (lw_at lw_m1 107 rfl) rfl
theorem q133 : (Jvm.Cond.methodLink "HeadTail" (76 : Nat) ({ cls := "HeadTail", name := "boundFor", desc := "(II)I" } : Jvm.MethodName)) ∈ lw_all := lw_g (lw_at lw_m1 108 rfl) rfl
theorem q134 : (Jvm.Cond.privateMethod ({ cls := "HeadTail", name := "boundFor", desc := "(II)I" } : Jvm.MethodName)) ∈ lw_tbl := lw_at lw_m1 109 rfl
theorem q135 : (Jvm.Cond.instanceMethod ({ cls := "HeadTail", name := "boundFor", desc := "(II)I" } : Jvm.MethodName)) ∈ lw_all := lw_g (lw_at lw_m1 110 rfl) rfl
theorem q136 : (Jvm.Cond.code ({ cls := "HeadTail", name := "boundFor", desc := "(II)I" } : Jvm.MethodName) prog_1_method_16_code (4 : Nat) (Option.some Jvm.ClassFile.FieldType.int)) ∈ lw_all := lw_g (lw_at lw_m1 111 rfl) rfl
theorem q137 : (Jvm.Cond.methodLink "HeadTail" (80 : Nat) ({ cls := "HeadTail", name := "interruptedLength", desc := "(II)I" } : Jvm.MethodName)) ∈ lw_all := lw_g (lw_at lw_m1 112 rfl) rfl
theorem q138 : (Jvm.Cond.privateMethod ({ cls := "HeadTail", name := "interruptedLength", desc := "(II)I" } : Jvm.MethodName)) ∈ lw_tbl := lw_at lw_m1 113 rfl
theorem q139 : (Jvm.Cond.instanceMethod ({ cls := "HeadTail", name := "interruptedLength", desc := "(II)I" } : Jvm.MethodName)) ∈ lw_all := lw_g (lw_at lw_m1 114 rfl) rfl
theorem q140 : (Jvm.Cond.code ({ cls := "HeadTail", name := "interruptedLength", desc := "(II)I" } : Jvm.MethodName) prog_1_method_11_code (10 : Nat) (Option.some Jvm.ClassFile.FieldType.int)) ∈ lw_all := lw_g (lw_at lw_m1 115 rfl) rfl
theorem q141 : (Jvm.Cond.methodLink "HeadTail" (56 : Nat) ({ cls := "HeadTail", name := "nextRelease", desc := "(I)I" } : Jvm.MethodName)) ∈ lw_all := lw_g (lw_at lw_m1 116 rfl) rfl
theorem q142 : (Jvm.Cond.privateMethod ({ cls := "HeadTail", name := "nextRelease", desc := "(I)I" } : Jvm.MethodName)) ∈ lw_tbl := lw_at lw_m1 117 rfl
theorem q143 : (Jvm.Cond.instanceMethod ({ cls := "HeadTail", name := "nextRelease", desc := "(I)I" } : Jvm.MethodName)) ∈ lw_all := lw_g (lw_at lw_m1 118 rfl) rfl
theorem q144 : (Jvm.Cond.code ({ cls := "HeadTail", name := "nextRelease", desc := "(I)I" } : Jvm.MethodName) prog_1_method_13_code (4 : Nat) (Option.some Jvm.ClassFile.FieldType.int)) ∈ lw_all := lw_g (lw_at lw_m1 119 rfl) rfl
theorem q145 : (Jvm.Cond.methodLink "HeadTail" (60 : Nat) ({ cls := "HeadTail", name := "mostUrgent", desc := "(I)I" } : Jvm.MethodName)) ∈ lw_all := lw_g (lw_at lw_m1 120 rfl) rfl
theorem q146 : (Jvm.Cond.privateMethod ({ cls := "HeadTail", name := "mostUrgent", desc := "(I)I" } : Jvm.MethodName)) ∈ lw_tbl := lw_at lw_m1 121 rfl
theorem q147 : (Jvm.Cond.instanceMethod ({ cls := "HeadTail", name := "mostUrgent", desc := "(I)I" } : Jvm.MethodName)) ∈ lw_all := lw_g (lw_at lw_m1 122 rfl) rfl
theorem q148 : (Jvm.Cond.code ({ cls := "HeadTail", name := "mostUrgent", desc := "(I)I" } : Jvm.MethodName) prog_1_method_12_code (4 : Nat) (Option.some Jvm.ClassFile.FieldType.int)) ∈ lw_all := lw_g (lw_at lw_m1 123 rfl) rfl
theorem q149 : (Jvm.Cond.methodLink "HeadTail" (93 : Nat) ({ cls := "HeadTail", name := "firstFitting", desc := "(II)I" } : Jvm.MethodName)) ∈ lw_all := lw_g (lw_at lw_m1 124 rfl) rfl
theorem q150 : (Jvm.Cond.privateMethod ({ cls := "HeadTail", name := "firstFitting", desc := "(II)I" } : Jvm.MethodName)) ∈ lw_tbl := lw_at lw_m1 125 rfl
theorem q151 : (Jvm.Cond.instanceMethod ({ cls := "HeadTail", name := "firstFitting", desc := "(II)I" } : Jvm.MethodName)) ∈ lw_all := lw_g (lw_at lw_m1 126 rfl) rfl
theorem q152 : (Jvm.Cond.code ({ cls := "HeadTail", name := "firstFitting", desc := "(II)I" } : Jvm.MethodName) prog_1_method_20_code (5 : Nat) (Option.some Jvm.ClassFile.FieldType.int)) ∈ lw_all := lw_g (lw_at lw_m1 127 rfl) rfl
theorem q154 : (Jvm.Cond.instanceMethod ({ cls := "HeadTail", name := "bestAt", desc := "(I)I" } : Jvm.MethodName)) ∈ lw_all := lw_g (lw_at lw_m1 129 rfl) rfl
theorem q155 : (Jvm.Cond.selects "HeadTail" ({ cls := "HeadTail", name := "bestAt", desc := "(I)I" } : Jvm.MethodName) ({ cls := "HeadTail", name := "bestAt", desc := "(I)I" } : Jvm.MethodName)) ∈ lw_all := lw_g (lw_at lw_m1 130 rfl) rfl
theorem q156 : (Jvm.Cond.code ({ cls := "HeadTail", name := "bestAt", desc := "(I)I" } : Jvm.MethodName) prog_1_method_23_code (2 : Nat) (Option.some Jvm.ClassFile.FieldType.int)) ∈ lw_all := lw_g (lw_at lw_m1 131 rfl) rfl
theorem q158 : (Jvm.Cond.instanceMethod ({ cls := "HeadTail", name := "begins", desc := "(I)I" } : Jvm.MethodName)) ∈ lw_all := lw_g (lw_at lw_m1 133 rfl) rfl
theorem q159 : (Jvm.Cond.selects "HeadTail" ({ cls := "HeadTail", name := "begins", desc := "(I)I" } : Jvm.MethodName) ({ cls := "HeadTail", name := "begins", desc := "(I)I" } : Jvm.MethodName)) ∈ lw_all := lw_g (lw_at lw_m1 134 rfl) rfl
theorem q160 : (Jvm.Cond.code ({ cls := "HeadTail", name := "begins", desc := "(I)I" } : Jvm.MethodName) prog_1_method_24_code (3 : Nat) (Option.some Jvm.ClassFile.FieldType.int)) ∈ lw_all := lw_g (lw_at lw_m1 135 rfl) rfl
theorem q162 : (Jvm.Cond.instanceMethod ({ cls := "HeadTail", name := "leastWith", desc := "(II)I" } : Jvm.MethodName)) ∈ lw_all := lw_g (lw_at lw_m1 137 rfl) rfl
theorem q163 : (Jvm.Cond.selects "HeadTail" ({ cls := "HeadTail", name := "leastWith", desc := "(II)I" } : Jvm.MethodName) ({ cls := "HeadTail", name := "leastWith", desc := "(II)I" } : Jvm.MethodName)) ∈ lw_all := lw_g (lw_at lw_m1 138 rfl) rfl
theorem q164 : (Jvm.Cond.code ({ cls := "HeadTail", name := "leastWith", desc := "(II)I" } : Jvm.MethodName) prog_1_method_25_code (3 : Nat) (Option.some Jvm.ClassFile.FieldType.int)) ∈ lw_all := lw_g (lw_at lw_m1 139 rfl) rfl
theorem q166 : (Jvm.Cond.instanceMethod ({ cls := "HeadTail", name := "leastFirst", desc := "(I)I" } : Jvm.MethodName)) ∈ lw_all := lw_g (lw_at lw_m1 141 rfl) rfl
theorem q167 : (Jvm.Cond.selects "HeadTail" ({ cls := "HeadTail", name := "leastFirst", desc := "(I)I" } : Jvm.MethodName) ({ cls := "HeadTail", name := "leastFirst", desc := "(I)I" } : Jvm.MethodName)) ∈ lw_all := lw_g (lw_at lw_m1 142 rfl) rfl
theorem q168 : (Jvm.Cond.code ({ cls := "HeadTail", name := "leastFirst", desc := "(I)I" } : Jvm.MethodName) prog_1_method_26_code (2 : Nat) (Option.some Jvm.ClassFile.FieldType.int)) ∈ lw_all := lw_g (lw_at lw_m1 143 rfl) rfl
theorem q170 : (Jvm.Cond.instanceMethod ({ cls := "HeadTail", name := "interrupted", desc := "()I" } : Jvm.MethodName)) ∈ lw_all := lw_g (lw_at lw_m1 145 rfl) rfl
theorem q171 : (Jvm.Cond.selects "HeadTail" ({ cls := "HeadTail", name := "interrupted", desc := "()I" } : Jvm.MethodName) ({ cls := "HeadTail", name := "interrupted", desc := "()I" } : Jvm.MethodName)) ∈ lw_all := lw_g (lw_at lw_m1 146 rfl) rfl
theorem q172 : (Jvm.Cond.code ({ cls := "HeadTail", name := "interrupted", desc := "()I" } : Jvm.MethodName) prog_1_method_27_code (1 : Nat) (Option.some Jvm.ClassFile.FieldType.int)) ∈ lw_all := lw_g (lw_at lw_m1 147 rfl) rfl
theorem q174 : (Jvm.Cond.instanceMethod ({ cls := "HeadTail", name := "tailFor", desc := "(II)I" } : Jvm.MethodName)) ∈ lw_all := lw_g (lw_at lw_m1 149 rfl) rfl
theorem q175 : (Jvm.Cond.selects "HeadTail" ({ cls := "HeadTail", name := "tailFor", desc := "(II)I" } : Jvm.MethodName) ({ cls := "HeadTail", name := "tailFor", desc := "(II)I" } : Jvm.MethodName)) ∈ lw_all := lw_g (lw_at lw_m1 150 rfl) rfl
theorem q176 : (Jvm.Cond.code ({ cls := "HeadTail", name := "tailFor", desc := "(II)I" } : Jvm.MethodName) prog_1_method_28_code (8 : Nat) (Option.some Jvm.ClassFile.FieldType.int)) ∈ lw_all := lw_g (lw_at lw_m1 151 rfl) rfl
theorem q177 : (Jvm.Cond.methodLink "HeadTail" (99 : Nat) ({ cls := "HeadTail", name := "plainLeast", desc := "()I" } : Jvm.MethodName)) ∈ lw_all := lw_g (lw_at lw_m1 152 rfl) rfl
theorem q178 : (Jvm.Cond.privateMethod ({ cls := "HeadTail", name := "plainLeast", desc := "()I" } : Jvm.MethodName)) ∈ lw_tbl := lw_at lw_m1 153 rfl
theorem q179 : (Jvm.Cond.instanceMethod ({ cls := "HeadTail", name := "plainLeast", desc := "()I" } : Jvm.MethodName)) ∈ lw_all := lw_g (lw_at lw_m1 154 rfl) rfl
theorem q180 : (Jvm.Cond.code ({ cls := "HeadTail", name := "plainLeast", desc := "()I" } : Jvm.MethodName) prog_1_method_21_code (1 : Nat) (Option.some Jvm.ClassFile.FieldType.int)) ∈ lw_all := lw_g (lw_at lw_m1 155 rfl) rfl
theorem q182 : (Jvm.Cond.instanceMethod ({ cls := "HeadTail", name := "releaseFor", desc := "(II)I" } : Jvm.MethodName)) ∈ lw_all := lw_g (lw_at lw_m1 157 rfl) rfl
theorem q183 : (Jvm.Cond.selects "HeadTail" ({ cls := "HeadTail", name := "releaseFor", desc := "(II)I" } : Jvm.MethodName) ({ cls := "HeadTail", name := "releaseFor", desc := "(II)I" } : Jvm.MethodName)) ∈ lw_all := lw_g (lw_at lw_m1 158 rfl) rfl
theorem q184 : (Jvm.Cond.code ({ cls := "HeadTail", name := "releaseFor", desc := "(II)I" } : Jvm.MethodName) prog_1_method_29_code (8 : Nat) (Option.some Jvm.ClassFile.FieldType.int)) ∈ lw_all := lw_g (lw_at lw_m1 159 rfl) rfl
theorem in_X0 : ∀ w ∈ wsX00, w ∈ lw_all := lw_in wsX00 [47, 49, 51, 53, 55, 57, 59, 61, 63, 65, 67] (by decide +kernel) (by decide +kernel)
end
section
set_option maxRecDepth 100000
/-! HeadTailModel -/
def RX1 : String := "HeadTailModel"
def TX1 : u_T := fun k => match k with
  | 0 => ("HeadTailModel", "there", "[Z", false)
  | 1 => ("HeadTailModel", "parts", "[I", false)
  | 2 => ("HeadTailModel", "n", "I", false)
  | 3 => ("HeadTailModel", "orders", "I", false)
  | 4 => ("HeadTailModel", "list", "[I", false)
  | _ => ("HeadTailModel", "start", "[I", false)
def tyX1 : Nat → FieldType := fun k => match k with
  | 0 => .array .boolean
  | 1 => .array .int
  | 2 => .int
  | 3 => .int
  | 4 => .array .int
  | _ => .array .int
abbrev wsX10 : List Cond := u_ws RX1 TX1 6
theorem nmX1 : ∀ a, a < 6 → ∀ b, b < 6 → a ≠ b → (TX1 a).2.1 ≠ (TX1 b).2.1 := by decide +kernel
theorem tyX1_ok : ∀ k, k < 6 → parseFieldDescriptor (TX1 k).2.2.1 = some (tyX1 k) := by decide +kernel
abbrev cX1_init : ByteArray := prog_3_method_1_code
def yX1_init : MethodName := ⟨RX1, "<init>", "()V"⟩
theorem dX1_init_0 : decode cX1_init 0 = .ok (.aload_n 0, 1) := by decide +kernel
theorem dX1_init_1 : decode cX1_init 1 = .ok (.invokespecial 1, 3) := by decide +kernel
theorem dX1_init_4 : decode cX1_init 4 = .ok (.aload_n 0, 1) := by decide +kernel
theorem dX1_init_5 : decode cX1_init 5 = .ok (.bipush 6, 2) := by decide +kernel
theorem dX1_init_7 : decode cX1_init 7 = .ok (.newarray .boolean, 2) := by decide +kernel
theorem dX1_init_9 : decode cX1_init 9 = .ok (.putfield 7, 3) := by decide +kernel
theorem dX1_init_12 : decode cX1_init 12 = .ok (.aload_n 0, 1) := by decide +kernel
theorem dX1_init_13 : decode cX1_init 13 = .ok (.bipush 18, 2) := by decide +kernel
theorem dX1_init_15 : decode cX1_init 15 = .ok (.newarray .int, 2) := by decide +kernel
theorem dX1_init_17 : decode cX1_init 17 = .ok (.putfield 13, 3) := by decide +kernel
theorem dX1_init_20 : decode cX1_init 20 = .ok (.aload_n 0, 1) := by decide +kernel
theorem dX1_init_21 : decode cX1_init 21 = .ok (.bipush 6, 2) := by decide +kernel
theorem dX1_init_23 : decode cX1_init 23 = .ok (.newarray .int, 2) := by decide +kernel
theorem dX1_init_25 : decode cX1_init 25 = .ok (.putfield 17, 3) := by decide +kernel
theorem dX1_init_28 : decode cX1_init 28 = .ok (.aload_n 0, 1) := by decide +kernel
theorem dX1_init_29 : decode cX1_init 29 = .ok (.bipush 6, 2) := by decide +kernel
theorem dX1_init_31 : decode cX1_init 31 = .ok (.newarray .int, 2) := by decide +kernel
theorem dX1_init_33 : decode cX1_init 33 = .ok (.putfield 20, 3) := by decide +kernel
theorem dX1_init_36 : decode cX1_init 36 = .ok (.return_, 1) := by decide +kernel
abbrev cX1_add : ByteArray := prog_3_method_5_code
def yX1_add : MethodName := ⟨RX1, "add", "(III)I"⟩
theorem dX1_add_0 : decode cX1_add 0 = .ok (.aload_n 0, 1) := by decide +kernel
theorem dX1_add_1 : decode cX1_add 1 = .ok (.iload_n 1, 1) := by decide +kernel
theorem dX1_add_2 : decode cX1_add 2 = .ok (.iload_n 2, 1) := by decide +kernel
theorem dX1_add_3 : decode cX1_add 3 = .ok (.iload_n 3, 1) := by decide +kernel
theorem dX1_add_4 : decode cX1_add 4 = .ok (.invokevirtual 23, 3) := by decide +kernel
theorem dX1_add_7 : decode cX1_add 7 = .ok (.ifCond .ne 5, 3) := by decide +kernel
theorem dX1_add_10 : decode cX1_add 10 = .ok (.iconst (-1), 1) := by decide +kernel
theorem dX1_add_11 : decode cX1_add 11 = .ok (.ireturn, 1) := by decide +kernel
theorem dX1_add_12 : decode cX1_add 12 = .ok (.iconst 0, 1) := by decide +kernel
theorem dX1_add_13 : decode cX1_add 13 = .ok (.istore 4, 2) := by decide +kernel
theorem dX1_add_15 : decode cX1_add 15 = .ok (.iload 4, 2) := by decide +kernel
theorem dX1_add_17 : decode cX1_add 17 = .ok (.bipush 6, 2) := by decide +kernel
theorem dX1_add_19 : decode cX1_add 19 = .ok (.if_icmp .ge 39, 3) := by decide +kernel
theorem dX1_add_22 : decode cX1_add 22 = .ok (.aload_n 0, 1) := by decide +kernel
theorem dX1_add_23 : decode cX1_add 23 = .ok (.getfield 7, 3) := by decide +kernel
theorem dX1_add_26 : decode cX1_add 26 = .ok (.iload 4, 2) := by decide +kernel
theorem dX1_add_28 : decode cX1_add 28 = .ok (.baload, 1) := by decide +kernel
theorem dX1_add_29 : decode cX1_add 29 = .ok (.ifCond .ne 23, 3) := by decide +kernel
theorem dX1_add_32 : decode cX1_add 32 = .ok (.aload_n 0, 1) := by decide +kernel
theorem dX1_add_33 : decode cX1_add 33 = .ok (.getfield 7, 3) := by decide +kernel
theorem dX1_add_36 : decode cX1_add 36 = .ok (.iload 4, 2) := by decide +kernel
theorem dX1_add_38 : decode cX1_add 38 = .ok (.iconst 1, 1) := by decide +kernel
theorem dX1_add_39 : decode cX1_add 39 = .ok (.bastore, 1) := by decide +kernel
theorem dX1_add_40 : decode cX1_add 40 = .ok (.aload_n 0, 1) := by decide +kernel
theorem dX1_add_41 : decode cX1_add 41 = .ok (.iload 4, 2) := by decide +kernel
theorem dX1_add_43 : decode cX1_add 43 = .ok (.iload_n 1, 1) := by decide +kernel
theorem dX1_add_44 : decode cX1_add 44 = .ok (.iload_n 2, 1) := by decide +kernel
theorem dX1_add_45 : decode cX1_add 45 = .ok (.iload_n 3, 1) := by decide +kernel
theorem dX1_add_46 : decode cX1_add 46 = .ok (.invokevirtual 27, 3) := by decide +kernel
theorem dX1_add_49 : decode cX1_add 49 = .ok (.iload 4, 2) := by decide +kernel
theorem dX1_add_51 : decode cX1_add 51 = .ok (.ireturn, 1) := by decide +kernel
theorem dX1_add_52 : decode cX1_add 52 = .ok (.iinc 4 1, 3) := by decide +kernel
theorem dX1_add_55 : decode cX1_add 55 = .ok (.goto (-40), 3) := by decide +kernel
theorem dX1_add_58 : decode cX1_add 58 = .ok (.bipush (-2), 2) := by decide +kernel
theorem dX1_add_60 : decode cX1_add 60 = .ok (.ireturn, 1) := by decide +kernel
abbrev cX1_good : ByteArray := prog_3_method_3_code
def yX1_good : MethodName := ⟨RX1, "good", "(III)Z"⟩
theorem dX1_good_0 : decode cX1_good 0 = .ok (.iload_n 1, 1) := by decide +kernel
theorem dX1_good_1 : decode cX1_good 1 = .ok (.ifCond .lt 34, 3) := by decide +kernel
theorem dX1_good_4 : decode cX1_good 4 = .ok (.iload_n 1, 1) := by decide +kernel
theorem dX1_good_5 : decode cX1_good 5 = .ok (.bipush 40, 2) := by decide +kernel
theorem dX1_good_7 : decode cX1_good 7 = .ok (.if_icmp .gt 28, 3) := by decide +kernel
theorem dX1_good_10 : decode cX1_good 10 = .ok (.iload_n 2, 1) := by decide +kernel
theorem dX1_good_11 : decode cX1_good 11 = .ok (.iconst 1, 1) := by decide +kernel
theorem dX1_good_12 : decode cX1_good 12 = .ok (.if_icmp .lt 23, 3) := by decide +kernel
theorem dX1_good_15 : decode cX1_good 15 = .ok (.iload_n 2, 1) := by decide +kernel
theorem dX1_good_16 : decode cX1_good 16 = .ok (.bipush 12, 2) := by decide +kernel
theorem dX1_good_18 : decode cX1_good 18 = .ok (.if_icmp .gt 17, 3) := by decide +kernel
theorem dX1_good_21 : decode cX1_good 21 = .ok (.iload_n 3, 1) := by decide +kernel
theorem dX1_good_22 : decode cX1_good 22 = .ok (.ifCond .lt 13, 3) := by decide +kernel
theorem dX1_good_25 : decode cX1_good 25 = .ok (.iload_n 3, 1) := by decide +kernel
theorem dX1_good_26 : decode cX1_good 26 = .ok (.bipush 40, 2) := by decide +kernel
theorem dX1_good_28 : decode cX1_good 28 = .ok (.if_icmp .gt 7, 3) := by decide +kernel
theorem dX1_good_31 : decode cX1_good 31 = .ok (.iconst 1, 1) := by decide +kernel
theorem dX1_good_32 : decode cX1_good 32 = .ok (.goto 4, 3) := by decide +kernel
theorem dX1_good_35 : decode cX1_good 35 = .ok (.iconst 0, 1) := by decide +kernel
theorem dX1_good_36 : decode cX1_good 36 = .ok (.ireturn, 1) := by decide +kernel
abbrev cX1_hold : ByteArray := prog_3_method_4_code
def yX1_hold : MethodName := ⟨RX1, "hold", "(IIII)V"⟩
theorem dX1_hold_0 : decode cX1_hold 0 = .ok (.aload_n 0, 1) := by decide +kernel
theorem dX1_hold_1 : decode cX1_hold 1 = .ok (.getfield 13, 3) := by decide +kernel
theorem dX1_hold_4 : decode cX1_hold 4 = .ok (.iconst 3, 1) := by decide +kernel
theorem dX1_hold_5 : decode cX1_hold 5 = .ok (.iload_n 1, 1) := by decide +kernel
theorem dX1_hold_6 : decode cX1_hold 6 = .ok (.imul, 1) := by decide +kernel
theorem dX1_hold_7 : decode cX1_hold 7 = .ok (.iload_n 2, 1) := by decide +kernel
theorem dX1_hold_8 : decode cX1_hold 8 = .ok (.iastore, 1) := by decide +kernel
theorem dX1_hold_9 : decode cX1_hold 9 = .ok (.aload_n 0, 1) := by decide +kernel
theorem dX1_hold_10 : decode cX1_hold 10 = .ok (.getfield 13, 3) := by decide +kernel
theorem dX1_hold_13 : decode cX1_hold 13 = .ok (.iconst 3, 1) := by decide +kernel
theorem dX1_hold_14 : decode cX1_hold 14 = .ok (.iload_n 1, 1) := by decide +kernel
theorem dX1_hold_15 : decode cX1_hold 15 = .ok (.imul, 1) := by decide +kernel
theorem dX1_hold_16 : decode cX1_hold 16 = .ok (.iconst 1, 1) := by decide +kernel
theorem dX1_hold_17 : decode cX1_hold 17 = .ok (.iadd, 1) := by decide +kernel
theorem dX1_hold_18 : decode cX1_hold 18 = .ok (.iload_n 3, 1) := by decide +kernel
theorem dX1_hold_19 : decode cX1_hold 19 = .ok (.iastore, 1) := by decide +kernel
theorem dX1_hold_20 : decode cX1_hold 20 = .ok (.aload_n 0, 1) := by decide +kernel
theorem dX1_hold_21 : decode cX1_hold 21 = .ok (.getfield 13, 3) := by decide +kernel
theorem dX1_hold_24 : decode cX1_hold 24 = .ok (.iconst 3, 1) := by decide +kernel
theorem dX1_hold_25 : decode cX1_hold 25 = .ok (.iload_n 1, 1) := by decide +kernel
theorem dX1_hold_26 : decode cX1_hold 26 = .ok (.imul, 1) := by decide +kernel
theorem dX1_hold_27 : decode cX1_hold 27 = .ok (.iconst 2, 1) := by decide +kernel
theorem dX1_hold_28 : decode cX1_hold 28 = .ok (.iadd, 1) := by decide +kernel
theorem dX1_hold_29 : decode cX1_hold 29 = .ok (.iload 4, 2) := by decide +kernel
theorem dX1_hold_31 : decode cX1_hold 31 = .ok (.iastore, 1) := by decide +kernel
theorem dX1_hold_32 : decode cX1_hold 32 = .ok (.return_, 1) := by decide +kernel
abbrev cX1_remove : ByteArray := prog_3_method_6_code
def yX1_remove : MethodName := ⟨RX1, "remove", "(I)Z"⟩
theorem dX1_remove_0 : decode cX1_remove 0 = .ok (.aload_n 0, 1) := by decide +kernel
theorem dX1_remove_1 : decode cX1_remove 1 = .ok (.iload_n 1, 1) := by decide +kernel
theorem dX1_remove_2 : decode cX1_remove 2 = .ok (.invokevirtual 31, 3) := by decide +kernel
theorem dX1_remove_5 : decode cX1_remove 5 = .ok (.ifCond .ne 5, 3) := by decide +kernel
theorem dX1_remove_8 : decode cX1_remove 8 = .ok (.iconst 0, 1) := by decide +kernel
theorem dX1_remove_9 : decode cX1_remove 9 = .ok (.ireturn, 1) := by decide +kernel
theorem dX1_remove_10 : decode cX1_remove 10 = .ok (.aload_n 0, 1) := by decide +kernel
theorem dX1_remove_11 : decode cX1_remove 11 = .ok (.getfield 7, 3) := by decide +kernel
theorem dX1_remove_14 : decode cX1_remove 14 = .ok (.iload_n 1, 1) := by decide +kernel
theorem dX1_remove_15 : decode cX1_remove 15 = .ok (.iconst 0, 1) := by decide +kernel
theorem dX1_remove_16 : decode cX1_remove 16 = .ok (.bastore, 1) := by decide +kernel
theorem dX1_remove_17 : decode cX1_remove 17 = .ok (.iconst 1, 1) := by decide +kernel
theorem dX1_remove_18 : decode cX1_remove 18 = .ok (.ireturn, 1) := by decide +kernel
abbrev cX1_is : ByteArray := prog_3_method_2_code
def yX1_is : MethodName := ⟨RX1, "is", "(I)Z"⟩
theorem dX1_is_0 : decode cX1_is 0 = .ok (.iload_n 1, 1) := by decide +kernel
theorem dX1_is_1 : decode cX1_is 1 = .ok (.ifCond .lt 22, 3) := by decide +kernel
theorem dX1_is_4 : decode cX1_is 4 = .ok (.iload_n 1, 1) := by decide +kernel
theorem dX1_is_5 : decode cX1_is 5 = .ok (.bipush 6, 2) := by decide +kernel
theorem dX1_is_7 : decode cX1_is 7 = .ok (.if_icmp .ge 16, 3) := by decide +kernel
theorem dX1_is_10 : decode cX1_is 10 = .ok (.aload_n 0, 1) := by decide +kernel
theorem dX1_is_11 : decode cX1_is 11 = .ok (.getfield 7, 3) := by decide +kernel
theorem dX1_is_14 : decode cX1_is 14 = .ok (.iload_n 1, 1) := by decide +kernel
theorem dX1_is_15 : decode cX1_is 15 = .ok (.baload, 1) := by decide +kernel
theorem dX1_is_16 : decode cX1_is 16 = .ok (.ifCond .eq 7, 3) := by decide +kernel
theorem dX1_is_19 : decode cX1_is 19 = .ok (.iconst 1, 1) := by decide +kernel
theorem dX1_is_20 : decode cX1_is 20 = .ok (.goto 4, 3) := by decide +kernel
theorem dX1_is_23 : decode cX1_is 23 = .ok (.iconst 0, 1) := by decide +kernel
theorem dX1_is_24 : decode cX1_is 24 = .ok (.ireturn, 1) := by decide +kernel
abbrev cX1_change : ByteArray := prog_3_method_7_code
def yX1_change : MethodName := ⟨RX1, "change", "(IIII)Z"⟩
theorem dX1_change_0 : decode cX1_change 0 = .ok (.aload_n 0, 1) := by decide +kernel
theorem dX1_change_1 : decode cX1_change 1 = .ok (.iload_n 1, 1) := by decide +kernel
theorem dX1_change_2 : decode cX1_change 2 = .ok (.invokevirtual 31, 3) := by decide +kernel
theorem dX1_change_5 : decode cX1_change 5 = .ok (.ifCond .eq 14, 3) := by decide +kernel
theorem dX1_change_8 : decode cX1_change 8 = .ok (.aload_n 0, 1) := by decide +kernel
theorem dX1_change_9 : decode cX1_change 9 = .ok (.iload_n 2, 1) := by decide +kernel
theorem dX1_change_10 : decode cX1_change 10 = .ok (.iload_n 3, 1) := by decide +kernel
theorem dX1_change_11 : decode cX1_change 11 = .ok (.iload 4, 2) := by decide +kernel
theorem dX1_change_13 : decode cX1_change 13 = .ok (.invokevirtual 23, 3) := by decide +kernel
theorem dX1_change_16 : decode cX1_change 16 = .ok (.ifCond .ne 5, 3) := by decide +kernel
theorem dX1_change_19 : decode cX1_change 19 = .ok (.iconst 0, 1) := by decide +kernel
theorem dX1_change_20 : decode cX1_change 20 = .ok (.ireturn, 1) := by decide +kernel
theorem dX1_change_21 : decode cX1_change 21 = .ok (.aload_n 0, 1) := by decide +kernel
theorem dX1_change_22 : decode cX1_change 22 = .ok (.iload_n 1, 1) := by decide +kernel
theorem dX1_change_23 : decode cX1_change 23 = .ok (.iload_n 2, 1) := by decide +kernel
theorem dX1_change_24 : decode cX1_change 24 = .ok (.iload_n 3, 1) := by decide +kernel
theorem dX1_change_25 : decode cX1_change 25 = .ok (.iload 4, 2) := by decide +kernel
theorem dX1_change_27 : decode cX1_change 27 = .ok (.invokevirtual 27, 3) := by decide +kernel
theorem dX1_change_30 : decode cX1_change 30 = .ok (.iconst 1, 1) := by decide +kernel
theorem dX1_change_31 : decode cX1_change 31 = .ok (.ireturn, 1) := by decide +kernel
abbrev cX1_jobs : ByteArray := prog_3_method_8_code
def yX1_jobs : MethodName := ⟨RX1, "jobs", "()I"⟩
theorem dX1_jobs_0 : decode cX1_jobs 0 = .ok (.iconst 0, 1) := by decide +kernel
theorem dX1_jobs_1 : decode cX1_jobs 1 = .ok (.istore_n 1, 1) := by decide +kernel
theorem dX1_jobs_2 : decode cX1_jobs 2 = .ok (.iconst 0, 1) := by decide +kernel
theorem dX1_jobs_3 : decode cX1_jobs 3 = .ok (.istore_n 2, 1) := by decide +kernel
theorem dX1_jobs_4 : decode cX1_jobs 4 = .ok (.iload_n 2, 1) := by decide +kernel
theorem dX1_jobs_5 : decode cX1_jobs 5 = .ok (.bipush 6, 2) := by decide +kernel
theorem dX1_jobs_7 : decode cX1_jobs 7 = .ok (.if_icmp .ge 28, 3) := by decide +kernel
theorem dX1_jobs_10 : decode cX1_jobs 10 = .ok (.iload_n 1, 1) := by decide +kernel
theorem dX1_jobs_11 : decode cX1_jobs 11 = .ok (.aload_n 0, 1) := by decide +kernel
theorem dX1_jobs_12 : decode cX1_jobs 12 = .ok (.getfield 7, 3) := by decide +kernel
theorem dX1_jobs_15 : decode cX1_jobs 15 = .ok (.iload_n 2, 1) := by decide +kernel
theorem dX1_jobs_16 : decode cX1_jobs 16 = .ok (.baload, 1) := by decide +kernel
theorem dX1_jobs_17 : decode cX1_jobs 17 = .ok (.ifCond .eq 9, 3) := by decide +kernel
theorem dX1_jobs_20 : decode cX1_jobs 20 = .ok (.iconst 1, 1) := by decide +kernel
theorem dX1_jobs_21 : decode cX1_jobs 21 = .ok (.iload_n 2, 1) := by decide +kernel
theorem dX1_jobs_22 : decode cX1_jobs 22 = .ok (.ishl, 1) := by decide +kernel
theorem dX1_jobs_23 : decode cX1_jobs 23 = .ok (.goto 4, 3) := by decide +kernel
theorem dX1_jobs_26 : decode cX1_jobs 26 = .ok (.iconst 0, 1) := by decide +kernel
theorem dX1_jobs_27 : decode cX1_jobs 27 = .ok (.ior, 1) := by decide +kernel
theorem dX1_jobs_28 : decode cX1_jobs 28 = .ok (.istore_n 1, 1) := by decide +kernel
theorem dX1_jobs_29 : decode cX1_jobs 29 = .ok (.iinc 2 1, 3) := by decide +kernel
theorem dX1_jobs_32 : decode cX1_jobs 32 = .ok (.goto (-28), 3) := by decide +kernel
theorem dX1_jobs_35 : decode cX1_jobs 35 = .ok (.iload_n 1, 1) := by decide +kernel
theorem dX1_jobs_36 : decode cX1_jobs 36 = .ok (.ireturn, 1) := by decide +kernel
abbrev cX1_part : ByteArray := prog_3_method_9_code
def yX1_part : MethodName := ⟨RX1, "part", "(II)I"⟩
theorem dX1_part_0 : decode cX1_part 0 = .ok (.aload_n 0, 1) := by decide +kernel
theorem dX1_part_1 : decode cX1_part 1 = .ok (.iload_n 1, 1) := by decide +kernel
theorem dX1_part_2 : decode cX1_part 2 = .ok (.invokevirtual 31, 3) := by decide +kernel
theorem dX1_part_5 : decode cX1_part 5 = .ok (.ifCond .eq 25, 3) := by decide +kernel
theorem dX1_part_8 : decode cX1_part 8 = .ok (.iload_n 2, 1) := by decide +kernel
theorem dX1_part_9 : decode cX1_part 9 = .ok (.ifCond .lt 21, 3) := by decide +kernel
theorem dX1_part_12 : decode cX1_part 12 = .ok (.iload_n 2, 1) := by decide +kernel
theorem dX1_part_13 : decode cX1_part 13 = .ok (.iconst 2, 1) := by decide +kernel
theorem dX1_part_14 : decode cX1_part 14 = .ok (.if_icmp .gt 16, 3) := by decide +kernel
theorem dX1_part_17 : decode cX1_part 17 = .ok (.aload_n 0, 1) := by decide +kernel
theorem dX1_part_18 : decode cX1_part 18 = .ok (.getfield 13, 3) := by decide +kernel
theorem dX1_part_21 : decode cX1_part 21 = .ok (.iconst 3, 1) := by decide +kernel
theorem dX1_part_22 : decode cX1_part 22 = .ok (.iload_n 1, 1) := by decide +kernel
theorem dX1_part_23 : decode cX1_part 23 = .ok (.imul, 1) := by decide +kernel
theorem dX1_part_24 : decode cX1_part 24 = .ok (.iload_n 2, 1) := by decide +kernel
theorem dX1_part_25 : decode cX1_part 25 = .ok (.iadd, 1) := by decide +kernel
theorem dX1_part_26 : decode cX1_part 26 = .ok (.iaload, 1) := by decide +kernel
theorem dX1_part_27 : decode cX1_part 27 = .ok (.goto 4, 3) := by decide +kernel
theorem dX1_part_30 : decode cX1_part 30 = .ok (.iconst (-1), 1) := by decide +kernel
theorem dX1_part_31 : decode cX1_part 31 = .ok (.ireturn, 1) := by decide +kernel
abbrev cX1_least : ByteArray := prog_3_method_15_code
def yX1_least : MethodName := ⟨RX1, "least", "()I"⟩
theorem dX1_least_0 : decode cX1_least 0 = .ok (.aload_n 0, 1) := by decide +kernel
theorem dX1_least_1 : decode cX1_least 1 = .ok (.iconst 0, 1) := by decide +kernel
theorem dX1_least_2 : decode cX1_least 2 = .ok (.iconst 0, 1) := by decide +kernel
theorem dX1_least_3 : decode cX1_least 3 = .ok (.invokevirtual 61, 3) := by decide +kernel
theorem dX1_least_6 : decode cX1_least 6 = .ok (.ireturn, 1) := by decide +kernel
abbrev cX1_leastOf : ByteArray := prog_3_method_14_code
def yX1_leastOf : MethodName := ⟨RX1, "leastOf", "(II)I"⟩
theorem dX1_leastOf_0 : decode cX1_leastOf 0 = .ok (.aload_n 0, 1) := by decide +kernel
theorem dX1_leastOf_1 : decode cX1_leastOf 1 = .ok (.invokevirtual 50, 3) := by decide +kernel
theorem dX1_leastOf_4 : decode cX1_leastOf 4 = .ok (.ldc 53, 2) := by decide +kernel
theorem dX1_leastOf_6 : decode cX1_leastOf 6 = .ok (.istore_n 3, 1) := by decide +kernel
theorem dX1_leastOf_7 : decode cX1_leastOf 7 = .ok (.iconst 0, 1) := by decide +kernel
theorem dX1_leastOf_8 : decode cX1_leastOf 8 = .ok (.istore 4, 2) := by decide +kernel
theorem dX1_leastOf_10 : decode cX1_leastOf 10 = .ok (.iload 4, 2) := by decide +kernel
theorem dX1_leastOf_12 : decode cX1_leastOf 12 = .ok (.aload_n 0, 1) := by decide +kernel
theorem dX1_leastOf_13 : decode cX1_leastOf 13 = .ok (.getfield 39, 3) := by decide +kernel
theorem dX1_leastOf_16 : decode cX1_leastOf 16 = .ok (.if_icmp .ge 52, 3) := by decide +kernel
theorem dX1_leastOf_19 : decode cX1_leastOf 19 = .ok (.iload 4, 2) := by decide +kernel
theorem dX1_leastOf_21 : decode cX1_leastOf 21 = .ok (.sipush 720, 3) := by decide +kernel
theorem dX1_leastOf_24 : decode cX1_leastOf 24 = .ok (.if_icmp .ge 44, 3) := by decide +kernel
theorem dX1_leastOf_27 : decode cX1_leastOf 27 = .ok (.aload_n 0, 1) := by decide +kernel
theorem dX1_leastOf_28 : decode cX1_leastOf 28 = .ok (.iload 4, 2) := by decide +kernel
theorem dX1_leastOf_30 : decode cX1_leastOf 30 = .ok (.invokevirtual 54, 3) := by decide +kernel
theorem dX1_leastOf_33 : decode cX1_leastOf 33 = .ok (.istore 5, 2) := by decide +kernel
theorem dX1_leastOf_35 : decode cX1_leastOf 35 = .ok (.iload 5, 2) := by decide +kernel
theorem dX1_leastOf_37 : decode cX1_leastOf 37 = .ok (.iload_n 3, 1) := by decide +kernel
theorem dX1_leastOf_38 : decode cX1_leastOf 38 = .ok (.if_icmp .ge 24, 3) := by decide +kernel
theorem dX1_leastOf_41 : decode cX1_leastOf 41 = .ok (.iload_n 1, 1) := by decide +kernel
theorem dX1_leastOf_42 : decode cX1_leastOf 42 = .ok (.iload_n 2, 1) := by decide +kernel
theorem dX1_leastOf_43 : decode cX1_leastOf 43 = .ok (.if_icmp .eq 16, 3) := by decide +kernel
theorem dX1_leastOf_46 : decode cX1_leastOf 46 = .ok (.aload_n 0, 1) := by decide +kernel
theorem dX1_leastOf_47 : decode cX1_leastOf 47 = .ok (.iload_n 1, 1) := by decide +kernel
theorem dX1_leastOf_48 : decode cX1_leastOf 48 = .ok (.invokevirtual 58, 3) := by decide +kernel
theorem dX1_leastOf_51 : decode cX1_leastOf 51 = .ok (.aload_n 0, 1) := by decide +kernel
theorem dX1_leastOf_52 : decode cX1_leastOf 52 = .ok (.iload_n 2, 1) := by decide +kernel
theorem dX1_leastOf_53 : decode cX1_leastOf 53 = .ok (.invokevirtual 58, 3) := by decide +kernel
theorem dX1_leastOf_56 : decode cX1_leastOf 56 = .ok (.if_icmp .ge 6, 3) := by decide +kernel
theorem dX1_leastOf_59 : decode cX1_leastOf 59 = .ok (.iload 5, 2) := by decide +kernel
theorem dX1_leastOf_61 : decode cX1_leastOf 61 = .ok (.istore_n 3, 1) := by decide +kernel
theorem dX1_leastOf_62 : decode cX1_leastOf 62 = .ok (.iinc 4 1, 3) := by decide +kernel
theorem dX1_leastOf_65 : decode cX1_leastOf 65 = .ok (.goto (-55), 3) := by decide +kernel
theorem dX1_leastOf_68 : decode cX1_leastOf 68 = .ok (.iload_n 3, 1) := by decide +kernel
theorem dX1_leastOf_69 : decode cX1_leastOf 69 = .ok (.ireturn, 1) := by decide +kernel
abbrev cX1_count : ByteArray := prog_3_method_10_code
def yX1_count : MethodName := ⟨RX1, "count", "()V"⟩
theorem dX1_count_0 : decode cX1_count 0 = .ok (.aload_n 0, 1) := by decide +kernel
theorem dX1_count_1 : decode cX1_count 1 = .ok (.iconst 0, 1) := by decide +kernel
theorem dX1_count_2 : decode cX1_count 2 = .ok (.putfield 35, 3) := by decide +kernel
theorem dX1_count_5 : decode cX1_count 5 = .ok (.aload_n 0, 1) := by decide +kernel
theorem dX1_count_6 : decode cX1_count 6 = .ok (.iconst 1, 1) := by decide +kernel
theorem dX1_count_7 : decode cX1_count 7 = .ok (.putfield 39, 3) := by decide +kernel
theorem dX1_count_10 : decode cX1_count 10 = .ok (.iconst 0, 1) := by decide +kernel
theorem dX1_count_11 : decode cX1_count 11 = .ok (.istore_n 1, 1) := by decide +kernel
theorem dX1_count_12 : decode cX1_count 12 = .ok (.iload_n 1, 1) := by decide +kernel
theorem dX1_count_13 : decode cX1_count 13 = .ok (.bipush 6, 2) := by decide +kernel
theorem dX1_count_15 : decode cX1_count 15 = .ok (.if_icmp .ge 61, 3) := by decide +kernel
theorem dX1_count_18 : decode cX1_count 18 = .ok (.aload_n 0, 1) := by decide +kernel
theorem dX1_count_19 : decode cX1_count 19 = .ok (.aload_n 0, 1) := by decide +kernel
theorem dX1_count_20 : decode cX1_count 20 = .ok (.getfield 35, 3) := by decide +kernel
theorem dX1_count_23 : decode cX1_count 23 = .ok (.aload_n 0, 1) := by decide +kernel
theorem dX1_count_24 : decode cX1_count 24 = .ok (.getfield 7, 3) := by decide +kernel
theorem dX1_count_27 : decode cX1_count 27 = .ok (.iload_n 1, 1) := by decide +kernel
theorem dX1_count_28 : decode cX1_count 28 = .ok (.baload, 1) := by decide +kernel
theorem dX1_count_29 : decode cX1_count 29 = .ok (.ifCond .eq 7, 3) := by decide +kernel
theorem dX1_count_32 : decode cX1_count 32 = .ok (.iconst 1, 1) := by decide +kernel
theorem dX1_count_33 : decode cX1_count 33 = .ok (.goto 4, 3) := by decide +kernel
theorem dX1_count_36 : decode cX1_count 36 = .ok (.iconst 0, 1) := by decide +kernel
theorem dX1_count_37 : decode cX1_count 37 = .ok (.iadd, 1) := by decide +kernel
theorem dX1_count_38 : decode cX1_count 38 = .ok (.putfield 35, 3) := by decide +kernel
theorem dX1_count_41 : decode cX1_count 41 = .ok (.aload_n 0, 1) := by decide +kernel
theorem dX1_count_42 : decode cX1_count 42 = .ok (.aload_n 0, 1) := by decide +kernel
theorem dX1_count_43 : decode cX1_count 43 = .ok (.getfield 7, 3) := by decide +kernel
theorem dX1_count_46 : decode cX1_count 46 = .ok (.iload_n 1, 1) := by decide +kernel
theorem dX1_count_47 : decode cX1_count 47 = .ok (.baload, 1) := by decide +kernel
theorem dX1_count_48 : decode cX1_count 48 = .ok (.ifCond .eq 15, 3) := by decide +kernel
theorem dX1_count_51 : decode cX1_count 51 = .ok (.aload_n 0, 1) := by decide +kernel
theorem dX1_count_52 : decode cX1_count 52 = .ok (.getfield 39, 3) := by decide +kernel
theorem dX1_count_55 : decode cX1_count 55 = .ok (.aload_n 0, 1) := by decide +kernel
theorem dX1_count_56 : decode cX1_count 56 = .ok (.getfield 35, 3) := by decide +kernel
theorem dX1_count_59 : decode cX1_count 59 = .ok (.imul, 1) := by decide +kernel
theorem dX1_count_60 : decode cX1_count 60 = .ok (.goto 7, 3) := by decide +kernel
theorem dX1_count_63 : decode cX1_count 63 = .ok (.aload_n 0, 1) := by decide +kernel
theorem dX1_count_64 : decode cX1_count 64 = .ok (.getfield 39, 3) := by decide +kernel
theorem dX1_count_67 : decode cX1_count 67 = .ok (.putfield 39, 3) := by decide +kernel
theorem dX1_count_70 : decode cX1_count 70 = .ok (.iinc 1 1, 3) := by decide +kernel
theorem dX1_count_73 : decode cX1_count 73 = .ok (.goto (-61), 3) := by decide +kernel
theorem dX1_count_76 : decode cX1_count 76 = .ok (.return_, 1) := by decide +kernel
abbrev cX1_spell : ByteArray := prog_3_method_11_code
def yX1_spell : MethodName := ⟨RX1, "spell", "(I)I"⟩
theorem dX1_spell_0 : decode cX1_spell 0 = .ok (.iload_n 1, 1) := by decide +kernel
theorem dX1_spell_1 : decode cX1_spell 1 = .ok (.istore_n 2, 1) := by decide +kernel
theorem dX1_spell_2 : decode cX1_spell 2 = .ok (.aload_n 0, 1) := by decide +kernel
theorem dX1_spell_3 : decode cX1_spell 3 = .ok (.getfield 39, 3) := by decide +kernel
theorem dX1_spell_6 : decode cX1_spell 6 = .ok (.istore_n 3, 1) := by decide +kernel
theorem dX1_spell_7 : decode cX1_spell 7 = .ok (.aload_n 0, 1) := by decide +kernel
theorem dX1_spell_8 : decode cX1_spell 8 = .ok (.invokevirtual 42, 3) := by decide +kernel
theorem dX1_spell_11 : decode cX1_spell 11 = .ok (.istore 4, 2) := by decide +kernel
theorem dX1_spell_13 : decode cX1_spell 13 = .ok (.iconst 0, 1) := by decide +kernel
theorem dX1_spell_14 : decode cX1_spell 14 = .ok (.istore 5, 2) := by decide +kernel
theorem dX1_spell_16 : decode cX1_spell 16 = .ok (.iconst 0, 1) := by decide +kernel
theorem dX1_spell_17 : decode cX1_spell 17 = .ok (.istore 6, 2) := by decide +kernel
theorem dX1_spell_19 : decode cX1_spell 19 = .ok (.iconst 0, 1) := by decide +kernel
theorem dX1_spell_20 : decode cX1_spell 20 = .ok (.istore 7, 2) := by decide +kernel
theorem dX1_spell_22 : decode cX1_spell 22 = .ok (.iload 7, 2) := by decide +kernel
theorem dX1_spell_24 : decode cX1_spell 24 = .ok (.aload_n 0, 1) := by decide +kernel
theorem dX1_spell_25 : decode cX1_spell 25 = .ok (.getfield 35, 3) := by decide +kernel
theorem dX1_spell_28 : decode cX1_spell 28 = .ok (.if_icmp .ge 170, 3) := by decide +kernel
theorem dX1_spell_31 : decode cX1_spell 31 = .ok (.iload_n 3, 1) := by decide +kernel
theorem dX1_spell_32 : decode cX1_spell 32 = .ok (.aload_n 0, 1) := by decide +kernel
theorem dX1_spell_33 : decode cX1_spell 33 = .ok (.getfield 35, 3) := by decide +kernel
theorem dX1_spell_36 : decode cX1_spell 36 = .ok (.iload 7, 2) := by decide +kernel
theorem dX1_spell_38 : decode cX1_spell 38 = .ok (.isub, 1) := by decide +kernel
theorem dX1_spell_39 : decode cX1_spell 39 = .ok (.idiv, 1) := by decide +kernel
theorem dX1_spell_40 : decode cX1_spell 40 = .ok (.istore_n 3, 1) := by decide +kernel
theorem dX1_spell_41 : decode cX1_spell 41 = .ok (.iload_n 3, 1) := by decide +kernel
theorem dX1_spell_42 : decode cX1_spell 42 = .ok (.ifCond .le 9, 3) := by decide +kernel
theorem dX1_spell_45 : decode cX1_spell 45 = .ok (.iload_n 2, 1) := by decide +kernel
theorem dX1_spell_46 : decode cX1_spell 46 = .ok (.iload_n 3, 1) := by decide +kernel
theorem dX1_spell_47 : decode cX1_spell 47 = .ok (.idiv, 1) := by decide +kernel
theorem dX1_spell_48 : decode cX1_spell 48 = .ok (.goto 4, 3) := by decide +kernel
theorem dX1_spell_51 : decode cX1_spell 51 = .ok (.iconst 0, 1) := by decide +kernel
theorem dX1_spell_52 : decode cX1_spell 52 = .ok (.istore 8, 2) := by decide +kernel
theorem dX1_spell_54 : decode cX1_spell 54 = .ok (.iload_n 3, 1) := by decide +kernel
theorem dX1_spell_55 : decode cX1_spell 55 = .ok (.ifCond .le 9, 3) := by decide +kernel
theorem dX1_spell_58 : decode cX1_spell 58 = .ok (.iload_n 2, 1) := by decide +kernel
theorem dX1_spell_59 : decode cX1_spell 59 = .ok (.iload_n 3, 1) := by decide +kernel
theorem dX1_spell_60 : decode cX1_spell 60 = .ok (.irem, 1) := by decide +kernel
theorem dX1_spell_61 : decode cX1_spell 61 = .ok (.goto 4, 3) := by decide +kernel
theorem dX1_spell_64 : decode cX1_spell 64 = .ok (.iconst 0, 1) := by decide +kernel
theorem dX1_spell_65 : decode cX1_spell 65 = .ok (.istore_n 2, 1) := by decide +kernel
theorem dX1_spell_66 : decode cX1_spell 66 = .ok (.aload_n 0, 1) := by decide +kernel
theorem dX1_spell_67 : decode cX1_spell 67 = .ok (.iload 4, 2) := by decide +kernel
theorem dX1_spell_69 : decode cX1_spell 69 = .ok (.iload 8, 2) := by decide +kernel
theorem dX1_spell_71 : decode cX1_spell 71 = .ok (.invokevirtual 46, 3) := by decide +kernel
theorem dX1_spell_74 : decode cX1_spell 74 = .ok (.istore 9, 2) := by decide +kernel
theorem dX1_spell_76 : decode cX1_spell 76 = .ok (.iload 4, 2) := by decide +kernel
theorem dX1_spell_78 : decode cX1_spell 78 = .ok (.iconst 1, 1) := by decide +kernel
theorem dX1_spell_79 : decode cX1_spell 79 = .ok (.iload 9, 2) := by decide +kernel
theorem dX1_spell_81 : decode cX1_spell 81 = .ok (.ishl, 1) := by decide +kernel
theorem dX1_spell_82 : decode cX1_spell 82 = .ok (.iconst (-1), 1) := by decide +kernel
theorem dX1_spell_83 : decode cX1_spell 83 = .ok (.ixor, 1) := by decide +kernel
theorem dX1_spell_84 : decode cX1_spell 84 = .ok (.iand, 1) := by decide +kernel
theorem dX1_spell_85 : decode cX1_spell 85 = .ok (.istore 4, 2) := by decide +kernel
theorem dX1_spell_87 : decode cX1_spell 87 = .ok (.aload_n 0, 1) := by decide +kernel
theorem dX1_spell_88 : decode cX1_spell 88 = .ok (.getfield 17, 3) := by decide +kernel
theorem dX1_spell_91 : decode cX1_spell 91 = .ok (.iload 7, 2) := by decide +kernel
theorem dX1_spell_93 : decode cX1_spell 93 = .ok (.iload 9, 2) := by decide +kernel
theorem dX1_spell_95 : decode cX1_spell 95 = .ok (.iastore, 1) := by decide +kernel
theorem dX1_spell_96 : decode cX1_spell 96 = .ok (.aload_n 0, 1) := by decide +kernel
theorem dX1_spell_97 : decode cX1_spell 97 = .ok (.getfield 20, 3) := by decide +kernel
theorem dX1_spell_100 : decode cX1_spell 100 = .ok (.iload 9, 2) := by decide +kernel
theorem dX1_spell_102 : decode cX1_spell 102 = .ok (.aload_n 0, 1) := by decide +kernel
theorem dX1_spell_103 : decode cX1_spell 103 = .ok (.getfield 13, 3) := by decide +kernel
theorem dX1_spell_106 : decode cX1_spell 106 = .ok (.iconst 3, 1) := by decide +kernel
theorem dX1_spell_107 : decode cX1_spell 107 = .ok (.iload 9, 2) := by decide +kernel
theorem dX1_spell_109 : decode cX1_spell 109 = .ok (.imul, 1) := by decide +kernel
theorem dX1_spell_110 : decode cX1_spell 110 = .ok (.iaload, 1) := by decide +kernel
theorem dX1_spell_111 : decode cX1_spell 111 = .ok (.iload 5, 2) := by decide +kernel
theorem dX1_spell_113 : decode cX1_spell 113 = .ok (.if_icmp .le 15, 3) := by decide +kernel
theorem dX1_spell_116 : decode cX1_spell 116 = .ok (.aload_n 0, 1) := by decide +kernel
theorem dX1_spell_117 : decode cX1_spell 117 = .ok (.getfield 13, 3) := by decide +kernel
theorem dX1_spell_120 : decode cX1_spell 120 = .ok (.iconst 3, 1) := by decide +kernel
theorem dX1_spell_121 : decode cX1_spell 121 = .ok (.iload 9, 2) := by decide +kernel
theorem dX1_spell_123 : decode cX1_spell 123 = .ok (.imul, 1) := by decide +kernel
theorem dX1_spell_124 : decode cX1_spell 124 = .ok (.iaload, 1) := by decide +kernel
theorem dX1_spell_125 : decode cX1_spell 125 = .ok (.goto 5, 3) := by decide +kernel
theorem dX1_spell_128 : decode cX1_spell 128 = .ok (.iload 5, 2) := by decide +kernel
theorem dX1_spell_130 : decode cX1_spell 130 = .ok (.iastore, 1) := by decide +kernel
theorem dX1_spell_131 : decode cX1_spell 131 = .ok (.aload_n 0, 1) := by decide +kernel
theorem dX1_spell_132 : decode cX1_spell 132 = .ok (.getfield 20, 3) := by decide +kernel
theorem dX1_spell_135 : decode cX1_spell 135 = .ok (.iload 9, 2) := by decide +kernel
theorem dX1_spell_137 : decode cX1_spell 137 = .ok (.iaload, 1) := by decide +kernel
theorem dX1_spell_138 : decode cX1_spell 138 = .ok (.aload_n 0, 1) := by decide +kernel
theorem dX1_spell_139 : decode cX1_spell 139 = .ok (.getfield 13, 3) := by decide +kernel
theorem dX1_spell_142 : decode cX1_spell 142 = .ok (.iconst 3, 1) := by decide +kernel
theorem dX1_spell_143 : decode cX1_spell 143 = .ok (.iload 9, 2) := by decide +kernel
theorem dX1_spell_145 : decode cX1_spell 145 = .ok (.imul, 1) := by decide +kernel
theorem dX1_spell_146 : decode cX1_spell 146 = .ok (.iconst 1, 1) := by decide +kernel
theorem dX1_spell_147 : decode cX1_spell 147 = .ok (.iadd, 1) := by decide +kernel
theorem dX1_spell_148 : decode cX1_spell 148 = .ok (.iaload, 1) := by decide +kernel
theorem dX1_spell_149 : decode cX1_spell 149 = .ok (.iadd, 1) := by decide +kernel
theorem dX1_spell_150 : decode cX1_spell 150 = .ok (.istore 5, 2) := by decide +kernel
theorem dX1_spell_152 : decode cX1_spell 152 = .ok (.iload 5, 2) := by decide +kernel
theorem dX1_spell_154 : decode cX1_spell 154 = .ok (.aload_n 0, 1) := by decide +kernel
theorem dX1_spell_155 : decode cX1_spell 155 = .ok (.getfield 13, 3) := by decide +kernel
theorem dX1_spell_158 : decode cX1_spell 158 = .ok (.iconst 3, 1) := by decide +kernel
theorem dX1_spell_159 : decode cX1_spell 159 = .ok (.iload 9, 2) := by decide +kernel
theorem dX1_spell_161 : decode cX1_spell 161 = .ok (.imul, 1) := by decide +kernel
theorem dX1_spell_162 : decode cX1_spell 162 = .ok (.iconst 2, 1) := by decide +kernel
theorem dX1_spell_163 : decode cX1_spell 163 = .ok (.iadd, 1) := by decide +kernel
theorem dX1_spell_164 : decode cX1_spell 164 = .ok (.iaload, 1) := by decide +kernel
theorem dX1_spell_165 : decode cX1_spell 165 = .ok (.iadd, 1) := by decide +kernel
theorem dX1_spell_166 : decode cX1_spell 166 = .ok (.iload 6, 2) := by decide +kernel
theorem dX1_spell_168 : decode cX1_spell 168 = .ok (.if_icmp .le 20, 3) := by decide +kernel
theorem dX1_spell_171 : decode cX1_spell 171 = .ok (.iload 5, 2) := by decide +kernel
theorem dX1_spell_173 : decode cX1_spell 173 = .ok (.aload_n 0, 1) := by decide +kernel
theorem dX1_spell_174 : decode cX1_spell 174 = .ok (.getfield 13, 3) := by decide +kernel
theorem dX1_spell_177 : decode cX1_spell 177 = .ok (.iconst 3, 1) := by decide +kernel
theorem dX1_spell_178 : decode cX1_spell 178 = .ok (.iload 9, 2) := by decide +kernel
theorem dX1_spell_180 : decode cX1_spell 180 = .ok (.imul, 1) := by decide +kernel
theorem dX1_spell_181 : decode cX1_spell 181 = .ok (.iconst 2, 1) := by decide +kernel
theorem dX1_spell_182 : decode cX1_spell 182 = .ok (.iadd, 1) := by decide +kernel
theorem dX1_spell_183 : decode cX1_spell 183 = .ok (.iaload, 1) := by decide +kernel
theorem dX1_spell_184 : decode cX1_spell 184 = .ok (.iadd, 1) := by decide +kernel
theorem dX1_spell_185 : decode cX1_spell 185 = .ok (.goto 5, 3) := by decide +kernel
theorem dX1_spell_188 : decode cX1_spell 188 = .ok (.iload 6, 2) := by decide +kernel
theorem dX1_spell_190 : decode cX1_spell 190 = .ok (.istore 6, 2) := by decide +kernel
theorem dX1_spell_192 : decode cX1_spell 192 = .ok (.iinc 7 1, 3) := by decide +kernel
theorem dX1_spell_195 : decode cX1_spell 195 = .ok (.goto (-173), 3) := by decide +kernel
theorem dX1_spell_198 : decode cX1_spell 198 = .ok (.iload 6, 2) := by decide +kernel
theorem dX1_spell_200 : decode cX1_spell 200 = .ok (.ireturn, 1) := by decide +kernel
end
section
set_option maxRecDepth 100000
abbrev cX1_nth : ByteArray := prog_3_method_12_code
def yX1_nth : MethodName := ⟨RX1, "nth", "(II)I"⟩
theorem dX1_nth_0 : decode cX1_nth 0 = .ok (.iconst 0, 1) := by decide +kernel
theorem dX1_nth_1 : decode cX1_nth 1 = .ok (.istore_n 3, 1) := by decide +kernel
theorem dX1_nth_2 : decode cX1_nth 2 = .ok (.iconst 0, 1) := by decide +kernel
theorem dX1_nth_3 : decode cX1_nth 3 = .ok (.istore 4, 2) := by decide +kernel
theorem dX1_nth_5 : decode cX1_nth 5 = .ok (.iload 4, 2) := by decide +kernel
theorem dX1_nth_7 : decode cX1_nth 7 = .ok (.bipush 6, 2) := by decide +kernel
theorem dX1_nth_9 : decode cX1_nth 9 = .ok (.if_icmp .ge 30, 3) := by decide +kernel
theorem dX1_nth_12 : decode cX1_nth 12 = .ok (.iload_n 1, 1) := by decide +kernel
theorem dX1_nth_13 : decode cX1_nth 13 = .ok (.iload 4, 2) := by decide +kernel
theorem dX1_nth_15 : decode cX1_nth 15 = .ok (.ishr, 1) := by decide +kernel
theorem dX1_nth_16 : decode cX1_nth 16 = .ok (.iconst 1, 1) := by decide +kernel
theorem dX1_nth_17 : decode cX1_nth 17 = .ok (.iand, 1) := by decide +kernel
theorem dX1_nth_18 : decode cX1_nth 18 = .ok (.iconst 1, 1) := by decide +kernel
theorem dX1_nth_19 : decode cX1_nth 19 = .ok (.if_icmp .ne 14, 3) := by decide +kernel
theorem dX1_nth_22 : decode cX1_nth 22 = .ok (.iload_n 3, 1) := by decide +kernel
theorem dX1_nth_23 : decode cX1_nth 23 = .ok (.iload_n 2, 1) := by decide +kernel
theorem dX1_nth_24 : decode cX1_nth 24 = .ok (.if_icmp .ne 6, 3) := by decide +kernel
theorem dX1_nth_27 : decode cX1_nth 27 = .ok (.iload 4, 2) := by decide +kernel
theorem dX1_nth_29 : decode cX1_nth 29 = .ok (.ireturn, 1) := by decide +kernel
theorem dX1_nth_30 : decode cX1_nth 30 = .ok (.iinc 3 1, 3) := by decide +kernel
theorem dX1_nth_33 : decode cX1_nth 33 = .ok (.iinc 4 1, 3) := by decide +kernel
theorem dX1_nth_36 : decode cX1_nth 36 = .ok (.goto (-31), 3) := by decide +kernel
theorem dX1_nth_39 : decode cX1_nth 39 = .ok (.iconst 0, 1) := by decide +kernel
theorem dX1_nth_40 : decode cX1_nth 40 = .ok (.ireturn, 1) := by decide +kernel
abbrev cX1_place : ByteArray := prog_3_method_13_code
def yX1_place : MethodName := ⟨RX1, "place", "(I)I"⟩
theorem dX1_place_0 : decode cX1_place 0 = .ok (.bipush 6, 2) := by decide +kernel
theorem dX1_place_2 : decode cX1_place 2 = .ok (.istore_n 2, 1) := by decide +kernel
theorem dX1_place_3 : decode cX1_place 3 = .ok (.iconst 0, 1) := by decide +kernel
theorem dX1_place_4 : decode cX1_place 4 = .ok (.istore_n 3, 1) := by decide +kernel
theorem dX1_place_5 : decode cX1_place 5 = .ok (.iload_n 3, 1) := by decide +kernel
theorem dX1_place_6 : decode cX1_place 6 = .ok (.aload_n 0, 1) := by decide +kernel
theorem dX1_place_7 : decode cX1_place 7 = .ok (.getfield 35, 3) := by decide +kernel
theorem dX1_place_10 : decode cX1_place 10 = .ok (.if_icmp .ge 25, 3) := by decide +kernel
theorem dX1_place_13 : decode cX1_place 13 = .ok (.aload_n 0, 1) := by decide +kernel
theorem dX1_place_14 : decode cX1_place 14 = .ok (.getfield 17, 3) := by decide +kernel
theorem dX1_place_17 : decode cX1_place 17 = .ok (.iload_n 3, 1) := by decide +kernel
theorem dX1_place_18 : decode cX1_place 18 = .ok (.iaload, 1) := by decide +kernel
theorem dX1_place_19 : decode cX1_place 19 = .ok (.iload_n 1, 1) := by decide +kernel
theorem dX1_place_20 : decode cX1_place 20 = .ok (.if_icmp .ne 7, 3) := by decide +kernel
theorem dX1_place_23 : decode cX1_place 23 = .ok (.iload_n 3, 1) := by decide +kernel
theorem dX1_place_24 : decode cX1_place 24 = .ok (.goto 4, 3) := by decide +kernel
theorem dX1_place_27 : decode cX1_place 27 = .ok (.iload_n 2, 1) := by decide +kernel
theorem dX1_place_28 : decode cX1_place 28 = .ok (.istore_n 2, 1) := by decide +kernel
theorem dX1_place_29 : decode cX1_place 29 = .ok (.iinc 3 1, 3) := by decide +kernel
theorem dX1_place_32 : decode cX1_place 32 = .ok (.goto (-27), 3) := by decide +kernel
theorem dX1_place_35 : decode cX1_place 35 = .ok (.iload_n 2, 1) := by decide +kernel
theorem dX1_place_36 : decode cX1_place 36 = .ok (.ireturn, 1) := by decide +kernel
abbrev cX1_bestAt : ByteArray := prog_3_method_17_code
def yX1_bestAt : MethodName := ⟨RX1, "bestAt", "(I)I"⟩
theorem dX1_bestAt_0 : decode cX1_bestAt 0 = .ok (.aload_n 0, 1) := by decide +kernel
theorem dX1_bestAt_1 : decode cX1_bestAt 1 = .ok (.invokevirtual 64, 3) := by decide +kernel
theorem dX1_bestAt_4 : decode cX1_bestAt 4 = .ok (.iload_n 1, 1) := by decide +kernel
theorem dX1_bestAt_5 : decode cX1_bestAt 5 = .ok (.ifCond .lt 11, 3) := by decide +kernel
theorem dX1_bestAt_8 : decode cX1_bestAt 8 = .ok (.iload_n 1, 1) := by decide +kernel
theorem dX1_bestAt_9 : decode cX1_bestAt 9 = .ok (.aload_n 0, 1) := by decide +kernel
theorem dX1_bestAt_10 : decode cX1_bestAt 10 = .ok (.getfield 35, 3) := by decide +kernel
theorem dX1_bestAt_13 : decode cX1_bestAt 13 = .ok (.if_icmp .lt 7, 3) := by decide +kernel
theorem dX1_bestAt_16 : decode cX1_bestAt 16 = .ok (.iconst (-1), 1) := by decide +kernel
theorem dX1_bestAt_17 : decode cX1_bestAt 17 = .ok (.goto 9, 3) := by decide +kernel
theorem dX1_bestAt_20 : decode cX1_bestAt 20 = .ok (.aload_n 0, 1) := by decide +kernel
theorem dX1_bestAt_21 : decode cX1_bestAt 21 = .ok (.getfield 17, 3) := by decide +kernel
theorem dX1_bestAt_24 : decode cX1_bestAt 24 = .ok (.iload_n 1, 1) := by decide +kernel
theorem dX1_bestAt_25 : decode cX1_bestAt 25 = .ok (.iaload, 1) := by decide +kernel
theorem dX1_bestAt_26 : decode cX1_bestAt 26 = .ok (.ireturn, 1) := by decide +kernel
abbrev cX1_best : ByteArray := prog_3_method_16_code
def yX1_best : MethodName := ⟨RX1, "best", "()V"⟩
theorem dX1_best_0 : decode cX1_best 0 = .ok (.aload_n 0, 1) := by decide +kernel
theorem dX1_best_1 : decode cX1_best 1 = .ok (.iconst 0, 1) := by decide +kernel
theorem dX1_best_2 : decode cX1_best 2 = .ok (.iconst 0, 1) := by decide +kernel
theorem dX1_best_3 : decode cX1_best 3 = .ok (.invokevirtual 61, 3) := by decide +kernel
theorem dX1_best_6 : decode cX1_best 6 = .ok (.istore_n 1, 1) := by decide +kernel
theorem dX1_best_7 : decode cX1_best 7 = .ok (.iconst 0, 1) := by decide +kernel
theorem dX1_best_8 : decode cX1_best 8 = .ok (.istore_n 2, 1) := by decide +kernel
theorem dX1_best_9 : decode cX1_best 9 = .ok (.iload_n 2, 1) := by decide +kernel
theorem dX1_best_10 : decode cX1_best 10 = .ok (.sipush 720, 3) := by decide +kernel
theorem dX1_best_13 : decode cX1_best 13 = .ok (.if_icmp .ge 18, 3) := by decide +kernel
theorem dX1_best_16 : decode cX1_best 16 = .ok (.aload_n 0, 1) := by decide +kernel
theorem dX1_best_17 : decode cX1_best 17 = .ok (.iload_n 2, 1) := by decide +kernel
theorem dX1_best_18 : decode cX1_best 18 = .ok (.invokevirtual 54, 3) := by decide +kernel
theorem dX1_best_21 : decode cX1_best 21 = .ok (.iload_n 1, 1) := by decide +kernel
theorem dX1_best_22 : decode cX1_best 22 = .ok (.if_icmp .eq 9, 3) := by decide +kernel
theorem dX1_best_25 : decode cX1_best 25 = .ok (.iinc 2 1, 3) := by decide +kernel
theorem dX1_best_28 : decode cX1_best 28 = .ok (.goto (-19), 3) := by decide +kernel
theorem dX1_best_31 : decode cX1_best 31 = .ok (.return_, 1) := by decide +kernel
abbrev cX1_begins : ByteArray := prog_3_method_18_code
def yX1_begins : MethodName := ⟨RX1, "begins", "(I)I"⟩
theorem dX1_begins_0 : decode cX1_begins 0 = .ok (.aload_n 0, 1) := by decide +kernel
theorem dX1_begins_1 : decode cX1_begins 1 = .ok (.invokevirtual 64, 3) := by decide +kernel
theorem dX1_begins_4 : decode cX1_begins 4 = .ok (.aload_n 0, 1) := by decide +kernel
theorem dX1_begins_5 : decode cX1_begins 5 = .ok (.iload_n 1, 1) := by decide +kernel
theorem dX1_begins_6 : decode cX1_begins 6 = .ok (.invokevirtual 31, 3) := by decide +kernel
theorem dX1_begins_9 : decode cX1_begins 9 = .ok (.ifCond .eq 12, 3) := by decide +kernel
theorem dX1_begins_12 : decode cX1_begins 12 = .ok (.aload_n 0, 1) := by decide +kernel
theorem dX1_begins_13 : decode cX1_begins 13 = .ok (.getfield 20, 3) := by decide +kernel
theorem dX1_begins_16 : decode cX1_begins 16 = .ok (.iload_n 1, 1) := by decide +kernel
theorem dX1_begins_17 : decode cX1_begins 17 = .ok (.iaload, 1) := by decide +kernel
theorem dX1_begins_18 : decode cX1_begins 18 = .ok (.goto 4, 3) := by decide +kernel
theorem dX1_begins_21 : decode cX1_begins 21 = .ok (.iconst (-1), 1) := by decide +kernel
theorem dX1_begins_22 : decode cX1_begins 22 = .ok (.ireturn, 1) := by decide +kernel
abbrev cX1_leastWith : ByteArray := prog_3_method_19_code
def yX1_leastWith : MethodName := ⟨RX1, "leastWith", "(II)I"⟩
theorem dX1_leastWith_0 : decode cX1_leastWith 0 = .ok (.aload_n 0, 1) := by decide +kernel
theorem dX1_leastWith_1 : decode cX1_leastWith 1 = .ok (.iload_n 1, 1) := by decide +kernel
theorem dX1_leastWith_2 : decode cX1_leastWith 2 = .ok (.invokevirtual 31, 3) := by decide +kernel
theorem dX1_leastWith_5 : decode cX1_leastWith 5 = .ok (.ifCond .eq 25, 3) := by decide +kernel
theorem dX1_leastWith_8 : decode cX1_leastWith 8 = .ok (.aload_n 0, 1) := by decide +kernel
theorem dX1_leastWith_9 : decode cX1_leastWith 9 = .ok (.iload_n 2, 1) := by decide +kernel
theorem dX1_leastWith_10 : decode cX1_leastWith 10 = .ok (.invokevirtual 31, 3) := by decide +kernel
theorem dX1_leastWith_13 : decode cX1_leastWith 13 = .ok (.ifCond .eq 17, 3) := by decide +kernel
theorem dX1_leastWith_16 : decode cX1_leastWith 16 = .ok (.iload_n 1, 1) := by decide +kernel
theorem dX1_leastWith_17 : decode cX1_leastWith 17 = .ok (.iload_n 2, 1) := by decide +kernel
theorem dX1_leastWith_18 : decode cX1_leastWith 18 = .ok (.if_icmp .eq 12, 3) := by decide +kernel
theorem dX1_leastWith_21 : decode cX1_leastWith 21 = .ok (.aload_n 0, 1) := by decide +kernel
theorem dX1_leastWith_22 : decode cX1_leastWith 22 = .ok (.iload_n 1, 1) := by decide +kernel
theorem dX1_leastWith_23 : decode cX1_leastWith 23 = .ok (.iload_n 2, 1) := by decide +kernel
theorem dX1_leastWith_24 : decode cX1_leastWith 24 = .ok (.invokevirtual 61, 3) := by decide +kernel
theorem dX1_leastWith_27 : decode cX1_leastWith 27 = .ok (.goto 4, 3) := by decide +kernel
theorem dX1_leastWith_30 : decode cX1_leastWith 30 = .ok (.iconst (-1), 1) := by decide +kernel
theorem dX1_leastWith_31 : decode cX1_leastWith 31 = .ok (.ireturn, 1) := by decide +kernel
abbrev cX1_leastFirst : ByteArray := prog_3_method_20_code
def yX1_leastFirst : MethodName := ⟨RX1, "leastFirst", "(I)I"⟩
theorem dX1_leastFirst_0 : decode cX1_leastFirst 0 = .ok (.aload_n 0, 1) := by decide +kernel
theorem dX1_leastFirst_1 : decode cX1_leastFirst 1 = .ok (.iload_n 1, 1) := by decide +kernel
theorem dX1_leastFirst_2 : decode cX1_leastFirst 2 = .ok (.invokevirtual 31, 3) := by decide +kernel
theorem dX1_leastFirst_5 : decode cX1_leastFirst 5 = .ok (.ifCond .ne 5, 3) := by decide +kernel
theorem dX1_leastFirst_8 : decode cX1_leastFirst 8 = .ok (.iconst (-1), 1) := by decide +kernel
theorem dX1_leastFirst_9 : decode cX1_leastFirst 9 = .ok (.ireturn, 1) := by decide +kernel
theorem dX1_leastFirst_10 : decode cX1_leastFirst 10 = .ok (.aload_n 0, 1) := by decide +kernel
theorem dX1_leastFirst_11 : decode cX1_leastFirst 11 = .ok (.invokevirtual 50, 3) := by decide +kernel
theorem dX1_leastFirst_14 : decode cX1_leastFirst 14 = .ok (.ldc 53, 2) := by decide +kernel
theorem dX1_leastFirst_16 : decode cX1_leastFirst 16 = .ok (.istore_n 2, 1) := by decide +kernel
theorem dX1_leastFirst_17 : decode cX1_leastFirst 17 = .ok (.iconst 0, 1) := by decide +kernel
theorem dX1_leastFirst_18 : decode cX1_leastFirst 18 = .ok (.istore_n 3, 1) := by decide +kernel
theorem dX1_leastFirst_19 : decode cX1_leastFirst 19 = .ok (.iload_n 3, 1) := by decide +kernel
theorem dX1_leastFirst_20 : decode cX1_leastFirst 20 = .ok (.aload_n 0, 1) := by decide +kernel
theorem dX1_leastFirst_21 : decode cX1_leastFirst 21 = .ok (.getfield 39, 3) := by decide +kernel
theorem dX1_leastFirst_24 : decode cX1_leastFirst 24 = .ok (.if_icmp .ge 46, 3) := by decide +kernel
theorem dX1_leastFirst_27 : decode cX1_leastFirst 27 = .ok (.iload_n 3, 1) := by decide +kernel
theorem dX1_leastFirst_28 : decode cX1_leastFirst 28 = .ok (.sipush 720, 3) := by decide +kernel
theorem dX1_leastFirst_31 : decode cX1_leastFirst 31 = .ok (.if_icmp .ge 39, 3) := by decide +kernel
theorem dX1_leastFirst_34 : decode cX1_leastFirst 34 = .ok (.aload_n 0, 1) := by decide +kernel
theorem dX1_leastFirst_35 : decode cX1_leastFirst 35 = .ok (.iload_n 3, 1) := by decide +kernel
theorem dX1_leastFirst_36 : decode cX1_leastFirst 36 = .ok (.invokevirtual 54, 3) := by decide +kernel
theorem dX1_leastFirst_39 : decode cX1_leastFirst 39 = .ok (.istore 4, 2) := by decide +kernel
theorem dX1_leastFirst_41 : decode cX1_leastFirst 41 = .ok (.aload_n 0, 1) := by decide +kernel
theorem dX1_leastFirst_42 : decode cX1_leastFirst 42 = .ok (.getfield 17, 3) := by decide +kernel
theorem dX1_leastFirst_45 : decode cX1_leastFirst 45 = .ok (.iconst 0, 1) := by decide +kernel
theorem dX1_leastFirst_46 : decode cX1_leastFirst 46 = .ok (.iaload, 1) := by decide +kernel
theorem dX1_leastFirst_47 : decode cX1_leastFirst 47 = .ok (.iload_n 1, 1) := by decide +kernel
theorem dX1_leastFirst_48 : decode cX1_leastFirst 48 = .ok (.if_icmp .ne 14, 3) := by decide +kernel
theorem dX1_leastFirst_51 : decode cX1_leastFirst 51 = .ok (.iload 4, 2) := by decide +kernel
theorem dX1_leastFirst_53 : decode cX1_leastFirst 53 = .ok (.iload_n 2, 1) := by decide +kernel
theorem dX1_leastFirst_54 : decode cX1_leastFirst 54 = .ok (.if_icmp .ge 8, 3) := by decide +kernel
theorem dX1_leastFirst_57 : decode cX1_leastFirst 57 = .ok (.iload 4, 2) := by decide +kernel
theorem dX1_leastFirst_59 : decode cX1_leastFirst 59 = .ok (.goto 4, 3) := by decide +kernel
theorem dX1_leastFirst_62 : decode cX1_leastFirst 62 = .ok (.iload_n 2, 1) := by decide +kernel
theorem dX1_leastFirst_63 : decode cX1_leastFirst 63 = .ok (.istore_n 2, 1) := by decide +kernel
theorem dX1_leastFirst_64 : decode cX1_leastFirst 64 = .ok (.iinc 3 1, 3) := by decide +kernel
theorem dX1_leastFirst_67 : decode cX1_leastFirst 67 = .ok (.goto (-48), 3) := by decide +kernel
theorem dX1_leastFirst_70 : decode cX1_leastFirst 70 = .ok (.iload_n 2, 1) := by decide +kernel
theorem dX1_leastFirst_71 : decode cX1_leastFirst 71 = .ok (.ireturn, 1) := by decide +kernel
abbrev cX1_interrupted : ByteArray := prog_3_method_21_code
def yX1_interrupted : MethodName := ⟨RX1, "interrupted", "()I"⟩
theorem dX1_interrupted_0 : decode cX1_interrupted 0 = .ok (.iconst 0, 1) := by decide +kernel
theorem dX1_interrupted_1 : decode cX1_interrupted 1 = .ok (.istore_n 1, 1) := by decide +kernel
theorem dX1_interrupted_2 : decode cX1_interrupted 2 = .ok (.iconst 1, 1) := by decide +kernel
theorem dX1_interrupted_3 : decode cX1_interrupted 3 = .ok (.istore_n 2, 1) := by decide +kernel
theorem dX1_interrupted_4 : decode cX1_interrupted 4 = .ok (.iload_n 2, 1) := by decide +kernel
theorem dX1_interrupted_5 : decode cX1_interrupted 5 = .ok (.bipush 64, 2) := by decide +kernel
theorem dX1_interrupted_7 : decode cX1_interrupted 7 = .ok (.if_icmp .ge 37, 3) := by decide +kernel
theorem dX1_interrupted_10 : decode cX1_interrupted 10 = .ok (.aload_n 0, 1) := by decide +kernel
theorem dX1_interrupted_11 : decode cX1_interrupted 11 = .ok (.iload_n 2, 1) := by decide +kernel
theorem dX1_interrupted_12 : decode cX1_interrupted 12 = .ok (.invokevirtual 67, 3) := by decide +kernel
theorem dX1_interrupted_15 : decode cX1_interrupted 15 = .ok (.istore_n 3, 1) := by decide +kernel
theorem dX1_interrupted_16 : decode cX1_interrupted 16 = .ok (.iload_n 2, 1) := by decide +kernel
theorem dX1_interrupted_17 : decode cX1_interrupted 17 = .ok (.aload_n 0, 1) := by decide +kernel
theorem dX1_interrupted_18 : decode cX1_interrupted 18 = .ok (.invokevirtual 42, 3) := by decide +kernel
theorem dX1_interrupted_21 : decode cX1_interrupted 21 = .ok (.iconst (-1), 1) := by decide +kernel
theorem dX1_interrupted_22 : decode cX1_interrupted 22 = .ok (.ixor, 1) := by decide +kernel
theorem dX1_interrupted_23 : decode cX1_interrupted 23 = .ok (.iand, 1) := by decide +kernel
theorem dX1_interrupted_24 : decode cX1_interrupted 24 = .ok (.ifCond .ne 12, 3) := by decide +kernel
theorem dX1_interrupted_27 : decode cX1_interrupted 27 = .ok (.iload_n 3, 1) := by decide +kernel
theorem dX1_interrupted_28 : decode cX1_interrupted 28 = .ok (.iload_n 1, 1) := by decide +kernel
theorem dX1_interrupted_29 : decode cX1_interrupted 29 = .ok (.if_icmp .le 7, 3) := by decide +kernel
theorem dX1_interrupted_32 : decode cX1_interrupted 32 = .ok (.iload_n 3, 1) := by decide +kernel
theorem dX1_interrupted_33 : decode cX1_interrupted 33 = .ok (.goto 4, 3) := by decide +kernel
theorem dX1_interrupted_36 : decode cX1_interrupted 36 = .ok (.iload_n 1, 1) := by decide +kernel
theorem dX1_interrupted_37 : decode cX1_interrupted 37 = .ok (.istore_n 1, 1) := by decide +kernel
theorem dX1_interrupted_38 : decode cX1_interrupted 38 = .ok (.iinc 2 1, 3) := by decide +kernel
theorem dX1_interrupted_41 : decode cX1_interrupted 41 = .ok (.goto (-37), 3) := by decide +kernel
theorem dX1_interrupted_44 : decode cX1_interrupted 44 = .ok (.iload_n 1, 1) := by decide +kernel
theorem dX1_interrupted_45 : decode cX1_interrupted 45 = .ok (.ireturn, 1) := by decide +kernel
abbrev cX1_bound : ByteArray := prog_3_method_22_code
def yX1_bound : MethodName := ⟨RX1, "bound", "(I)I"⟩
theorem dX1_bound_0 : decode cX1_bound 0 = .ok (.bipush 100, 2) := by decide +kernel
theorem dX1_bound_2 : decode cX1_bound 2 = .ok (.istore_n 2, 1) := by decide +kernel
theorem dX1_bound_3 : decode cX1_bound 3 = .ok (.iconst 0, 1) := by decide +kernel
theorem dX1_bound_4 : decode cX1_bound 4 = .ok (.istore_n 3, 1) := by decide +kernel
theorem dX1_bound_5 : decode cX1_bound 5 = .ok (.bipush 100, 2) := by decide +kernel
theorem dX1_bound_7 : decode cX1_bound 7 = .ok (.istore 4, 2) := by decide +kernel
theorem dX1_bound_9 : decode cX1_bound 9 = .ok (.iconst 0, 1) := by decide +kernel
theorem dX1_bound_10 : decode cX1_bound 10 = .ok (.istore 5, 2) := by decide +kernel
theorem dX1_bound_12 : decode cX1_bound 12 = .ok (.iload 5, 2) := by decide +kernel
theorem dX1_bound_14 : decode cX1_bound 14 = .ok (.bipush 6, 2) := by decide +kernel
theorem dX1_bound_16 : decode cX1_bound 16 = .ok (.if_icmp .ge 94, 3) := by decide +kernel
theorem dX1_bound_19 : decode cX1_bound 19 = .ok (.iload_n 1, 1) := by decide +kernel
theorem dX1_bound_20 : decode cX1_bound 20 = .ok (.iload 5, 2) := by decide +kernel
theorem dX1_bound_22 : decode cX1_bound 22 = .ok (.ishr, 1) := by decide +kernel
theorem dX1_bound_23 : decode cX1_bound 23 = .ok (.iconst 1, 1) := by decide +kernel
theorem dX1_bound_24 : decode cX1_bound 24 = .ok (.iand, 1) := by decide +kernel
theorem dX1_bound_25 : decode cX1_bound 25 = .ok (.iconst 1, 1) := by decide +kernel
theorem dX1_bound_26 : decode cX1_bound 26 = .ok (.if_icmp .ne 78, 3) := by decide +kernel
theorem dX1_bound_29 : decode cX1_bound 29 = .ok (.aload_n 0, 1) := by decide +kernel
theorem dX1_bound_30 : decode cX1_bound 30 = .ok (.getfield 13, 3) := by decide +kernel
theorem dX1_bound_33 : decode cX1_bound 33 = .ok (.iconst 3, 1) := by decide +kernel
theorem dX1_bound_34 : decode cX1_bound 34 = .ok (.iload 5, 2) := by decide +kernel
theorem dX1_bound_36 : decode cX1_bound 36 = .ok (.imul, 1) := by decide +kernel
theorem dX1_bound_37 : decode cX1_bound 37 = .ok (.iaload, 1) := by decide +kernel
theorem dX1_bound_38 : decode cX1_bound 38 = .ok (.iload_n 2, 1) := by decide +kernel
theorem dX1_bound_39 : decode cX1_bound 39 = .ok (.if_icmp .ge 15, 3) := by decide +kernel
theorem dX1_bound_42 : decode cX1_bound 42 = .ok (.aload_n 0, 1) := by decide +kernel
theorem dX1_bound_43 : decode cX1_bound 43 = .ok (.getfield 13, 3) := by decide +kernel
theorem dX1_bound_46 : decode cX1_bound 46 = .ok (.iconst 3, 1) := by decide +kernel
theorem dX1_bound_47 : decode cX1_bound 47 = .ok (.iload 5, 2) := by decide +kernel
theorem dX1_bound_49 : decode cX1_bound 49 = .ok (.imul, 1) := by decide +kernel
theorem dX1_bound_50 : decode cX1_bound 50 = .ok (.iaload, 1) := by decide +kernel
theorem dX1_bound_51 : decode cX1_bound 51 = .ok (.goto 4, 3) := by decide +kernel
theorem dX1_bound_54 : decode cX1_bound 54 = .ok (.iload_n 2, 1) := by decide +kernel
theorem dX1_bound_55 : decode cX1_bound 55 = .ok (.istore_n 2, 1) := by decide +kernel
theorem dX1_bound_56 : decode cX1_bound 56 = .ok (.iload_n 3, 1) := by decide +kernel
theorem dX1_bound_57 : decode cX1_bound 57 = .ok (.aload_n 0, 1) := by decide +kernel
theorem dX1_bound_58 : decode cX1_bound 58 = .ok (.getfield 13, 3) := by decide +kernel
theorem dX1_bound_61 : decode cX1_bound 61 = .ok (.iconst 3, 1) := by decide +kernel
theorem dX1_bound_62 : decode cX1_bound 62 = .ok (.iload 5, 2) := by decide +kernel
theorem dX1_bound_64 : decode cX1_bound 64 = .ok (.imul, 1) := by decide +kernel
theorem dX1_bound_65 : decode cX1_bound 65 = .ok (.iconst 1, 1) := by decide +kernel
theorem dX1_bound_66 : decode cX1_bound 66 = .ok (.iadd, 1) := by decide +kernel
theorem dX1_bound_67 : decode cX1_bound 67 = .ok (.iaload, 1) := by decide +kernel
theorem dX1_bound_68 : decode cX1_bound 68 = .ok (.iadd, 1) := by decide +kernel
theorem dX1_bound_69 : decode cX1_bound 69 = .ok (.istore_n 3, 1) := by decide +kernel
theorem dX1_bound_70 : decode cX1_bound 70 = .ok (.aload_n 0, 1) := by decide +kernel
theorem dX1_bound_71 : decode cX1_bound 71 = .ok (.getfield 13, 3) := by decide +kernel
theorem dX1_bound_74 : decode cX1_bound 74 = .ok (.iconst 3, 1) := by decide +kernel
theorem dX1_bound_75 : decode cX1_bound 75 = .ok (.iload 5, 2) := by decide +kernel
theorem dX1_bound_77 : decode cX1_bound 77 = .ok (.imul, 1) := by decide +kernel
theorem dX1_bound_78 : decode cX1_bound 78 = .ok (.iconst 2, 1) := by decide +kernel
theorem dX1_bound_79 : decode cX1_bound 79 = .ok (.iadd, 1) := by decide +kernel
theorem dX1_bound_80 : decode cX1_bound 80 = .ok (.iaload, 1) := by decide +kernel
theorem dX1_bound_81 : decode cX1_bound 81 = .ok (.iload 4, 2) := by decide +kernel
theorem dX1_bound_83 : decode cX1_bound 83 = .ok (.if_icmp .ge 17, 3) := by decide +kernel
theorem dX1_bound_86 : decode cX1_bound 86 = .ok (.aload_n 0, 1) := by decide +kernel
theorem dX1_bound_87 : decode cX1_bound 87 = .ok (.getfield 13, 3) := by decide +kernel
theorem dX1_bound_90 : decode cX1_bound 90 = .ok (.iconst 3, 1) := by decide +kernel
theorem dX1_bound_91 : decode cX1_bound 91 = .ok (.iload 5, 2) := by decide +kernel
theorem dX1_bound_93 : decode cX1_bound 93 = .ok (.imul, 1) := by decide +kernel
theorem dX1_bound_94 : decode cX1_bound 94 = .ok (.iconst 2, 1) := by decide +kernel
theorem dX1_bound_95 : decode cX1_bound 95 = .ok (.iadd, 1) := by decide +kernel
theorem dX1_bound_96 : decode cX1_bound 96 = .ok (.iaload, 1) := by decide +kernel
theorem dX1_bound_97 : decode cX1_bound 97 = .ok (.goto 5, 3) := by decide +kernel
theorem dX1_bound_100 : decode cX1_bound 100 = .ok (.iload 4, 2) := by decide +kernel
theorem dX1_bound_102 : decode cX1_bound 102 = .ok (.istore 4, 2) := by decide +kernel
theorem dX1_bound_104 : decode cX1_bound 104 = .ok (.iinc 5 1, 3) := by decide +kernel
theorem dX1_bound_107 : decode cX1_bound 107 = .ok (.goto (-95), 3) := by decide +kernel
theorem dX1_bound_110 : decode cX1_bound 110 = .ok (.iload_n 2, 1) := by decide +kernel
theorem dX1_bound_111 : decode cX1_bound 111 = .ok (.iload_n 3, 1) := by decide +kernel
theorem dX1_bound_112 : decode cX1_bound 112 = .ok (.iadd, 1) := by decide +kernel
theorem dX1_bound_113 : decode cX1_bound 113 = .ok (.iload 4, 2) := by decide +kernel
theorem dX1_bound_115 : decode cX1_bound 115 = .ok (.iadd, 1) := by decide +kernel
theorem dX1_bound_116 : decode cX1_bound 116 = .ok (.ireturn, 1) := by decide +kernel
abbrev cX1_tailFor : ByteArray := prog_3_method_24_code
def yX1_tailFor : MethodName := ⟨RX1, "tailFor", "(II)I"⟩
theorem dX1_tailFor_0 : decode cX1_tailFor 0 = .ok (.aload_n 0, 1) := by decide +kernel
theorem dX1_tailFor_1 : decode cX1_tailFor 1 = .ok (.iload_n 1, 1) := by decide +kernel
theorem dX1_tailFor_2 : decode cX1_tailFor 2 = .ok (.iconst 2, 1) := by decide +kernel
theorem dX1_tailFor_3 : decode cX1_tailFor 3 = .ok (.iload_n 2, 1) := by decide +kernel
theorem dX1_tailFor_4 : decode cX1_tailFor 4 = .ok (.invokevirtual 70, 3) := by decide +kernel
theorem dX1_tailFor_7 : decode cX1_tailFor 7 = .ok (.ireturn, 1) := by decide +kernel
abbrev cX1_greatest : ByteArray := prog_3_method_23_code
def yX1_greatest : MethodName := ⟨RX1, "greatest", "(III)I"⟩
theorem dX1_greatest_0 : decode cX1_greatest 0 = .ok (.aload_n 0, 1) := by decide +kernel
theorem dX1_greatest_1 : decode cX1_greatest 1 = .ok (.iload_n 1, 1) := by decide +kernel
theorem dX1_greatest_2 : decode cX1_greatest 2 = .ok (.invokevirtual 31, 3) := by decide +kernel
theorem dX1_greatest_5 : decode cX1_greatest 5 = .ok (.ifCond .ne 5, 3) := by decide +kernel
theorem dX1_greatest_8 : decode cX1_greatest 8 = .ok (.iconst (-1), 1) := by decide +kernel
theorem dX1_greatest_9 : decode cX1_greatest 9 = .ok (.ireturn, 1) := by decide +kernel
theorem dX1_greatest_10 : decode cX1_greatest 10 = .ok (.aload_n 0, 1) := by decide +kernel
theorem dX1_greatest_11 : decode cX1_greatest 11 = .ok (.invokevirtual 50, 3) := by decide +kernel
theorem dX1_greatest_14 : decode cX1_greatest 14 = .ok (.aload_n 0, 1) := by decide +kernel
theorem dX1_greatest_15 : decode cX1_greatest 15 = .ok (.getfield 13, 3) := by decide +kernel
theorem dX1_greatest_18 : decode cX1_greatest 18 = .ok (.iconst 3, 1) := by decide +kernel
theorem dX1_greatest_19 : decode cX1_greatest 19 = .ok (.iload_n 1, 1) := by decide +kernel
theorem dX1_greatest_20 : decode cX1_greatest 20 = .ok (.imul, 1) := by decide +kernel
theorem dX1_greatest_21 : decode cX1_greatest 21 = .ok (.iload_n 2, 1) := by decide +kernel
theorem dX1_greatest_22 : decode cX1_greatest 22 = .ok (.iadd, 1) := by decide +kernel
theorem dX1_greatest_23 : decode cX1_greatest 23 = .ok (.iaload, 1) := by decide +kernel
theorem dX1_greatest_24 : decode cX1_greatest 24 = .ok (.istore 4, 2) := by decide +kernel
theorem dX1_greatest_26 : decode cX1_greatest 26 = .ok (.iconst (-1), 1) := by decide +kernel
theorem dX1_greatest_27 : decode cX1_greatest 27 = .ok (.istore 5, 2) := by decide +kernel
theorem dX1_greatest_29 : decode cX1_greatest 29 = .ok (.iload_n 3, 1) := by decide +kernel
theorem dX1_greatest_30 : decode cX1_greatest 30 = .ok (.sipush 200, 3) := by decide +kernel
theorem dX1_greatest_33 : decode cX1_greatest 33 = .ok (.if_icmp .ge 7, 3) := by decide +kernel
theorem dX1_greatest_36 : decode cX1_greatest 36 = .ok (.iload_n 3, 1) := by decide +kernel
theorem dX1_greatest_37 : decode cX1_greatest 37 = .ok (.goto 6, 3) := by decide +kernel
theorem dX1_greatest_40 : decode cX1_greatest 40 = .ok (.sipush 200, 3) := by decide +kernel
theorem dX1_greatest_43 : decode cX1_greatest 43 = .ok (.istore 6, 2) := by decide +kernel
theorem dX1_greatest_45 : decode cX1_greatest 45 = .ok (.iload 6, 2) := by decide +kernel
theorem dX1_greatest_47 : decode cX1_greatest 47 = .ok (.ifCond .lt 76, 3) := by decide +kernel
theorem dX1_greatest_50 : decode cX1_greatest 50 = .ok (.iload 5, 2) := by decide +kernel
theorem dX1_greatest_52 : decode cX1_greatest 52 = .ok (.ifCond .ge 71, 3) := by decide +kernel
theorem dX1_greatest_55 : decode cX1_greatest 55 = .ok (.aload_n 0, 1) := by decide +kernel
theorem dX1_greatest_56 : decode cX1_greatest 56 = .ok (.getfield 13, 3) := by decide +kernel
theorem dX1_greatest_59 : decode cX1_greatest 59 = .ok (.iconst 3, 1) := by decide +kernel
theorem dX1_greatest_60 : decode cX1_greatest 60 = .ok (.iload_n 1, 1) := by decide +kernel
theorem dX1_greatest_61 : decode cX1_greatest 61 = .ok (.imul, 1) := by decide +kernel
theorem dX1_greatest_62 : decode cX1_greatest 62 = .ok (.iload_n 2, 1) := by decide +kernel
theorem dX1_greatest_63 : decode cX1_greatest 63 = .ok (.iadd, 1) := by decide +kernel
theorem dX1_greatest_64 : decode cX1_greatest 64 = .ok (.iload 6, 2) := by decide +kernel
theorem dX1_greatest_66 : decode cX1_greatest 66 = .ok (.iastore, 1) := by decide +kernel
theorem dX1_greatest_67 : decode cX1_greatest 67 = .ok (.iconst 0, 1) := by decide +kernel
theorem dX1_greatest_68 : decode cX1_greatest 68 = .ok (.istore 7, 2) := by decide +kernel
theorem dX1_greatest_70 : decode cX1_greatest 70 = .ok (.iload 7, 2) := by decide +kernel
theorem dX1_greatest_72 : decode cX1_greatest 72 = .ok (.aload_n 0, 1) := by decide +kernel
theorem dX1_greatest_73 : decode cX1_greatest 73 = .ok (.getfield 39, 3) := by decide +kernel
theorem dX1_greatest_76 : decode cX1_greatest 76 = .ok (.if_icmp .ge 41, 3) := by decide +kernel
theorem dX1_greatest_79 : decode cX1_greatest 79 = .ok (.iload 7, 2) := by decide +kernel
theorem dX1_greatest_81 : decode cX1_greatest 81 = .ok (.sipush 720, 3) := by decide +kernel
theorem dX1_greatest_84 : decode cX1_greatest 84 = .ok (.if_icmp .ge 33, 3) := by decide +kernel
theorem dX1_greatest_87 : decode cX1_greatest 87 = .ok (.iload 5, 2) := by decide +kernel
theorem dX1_greatest_89 : decode cX1_greatest 89 = .ok (.ifCond .ge 28, 3) := by decide +kernel
theorem dX1_greatest_92 : decode cX1_greatest 92 = .ok (.aload_n 0, 1) := by decide +kernel
theorem dX1_greatest_93 : decode cX1_greatest 93 = .ok (.iload 7, 2) := by decide +kernel
theorem dX1_greatest_95 : decode cX1_greatest 95 = .ok (.invokevirtual 54, 3) := by decide +kernel
theorem dX1_greatest_98 : decode cX1_greatest 98 = .ok (.iload_n 3, 1) := by decide +kernel
theorem dX1_greatest_99 : decode cX1_greatest 99 = .ok (.if_icmp .gt 8, 3) := by decide +kernel
theorem dX1_greatest_102 : decode cX1_greatest 102 = .ok (.iload 6, 2) := by decide +kernel
theorem dX1_greatest_104 : decode cX1_greatest 104 = .ok (.goto 5, 3) := by decide +kernel
theorem dX1_greatest_107 : decode cX1_greatest 107 = .ok (.iload 5, 2) := by decide +kernel
theorem dX1_greatest_109 : decode cX1_greatest 109 = .ok (.istore 5, 2) := by decide +kernel
theorem dX1_greatest_111 : decode cX1_greatest 111 = .ok (.iinc 7 1, 3) := by decide +kernel
theorem dX1_greatest_114 : decode cX1_greatest 114 = .ok (.goto (-44), 3) := by decide +kernel
theorem dX1_greatest_117 : decode cX1_greatest 117 = .ok (.iinc 6 (-1), 3) := by decide +kernel
theorem dX1_greatest_120 : decode cX1_greatest 120 = .ok (.goto (-75), 3) := by decide +kernel
theorem dX1_greatest_123 : decode cX1_greatest 123 = .ok (.aload_n 0, 1) := by decide +kernel
theorem dX1_greatest_124 : decode cX1_greatest 124 = .ok (.getfield 13, 3) := by decide +kernel
theorem dX1_greatest_127 : decode cX1_greatest 127 = .ok (.iconst 3, 1) := by decide +kernel
theorem dX1_greatest_128 : decode cX1_greatest 128 = .ok (.iload_n 1, 1) := by decide +kernel
theorem dX1_greatest_129 : decode cX1_greatest 129 = .ok (.imul, 1) := by decide +kernel
theorem dX1_greatest_130 : decode cX1_greatest 130 = .ok (.iload_n 2, 1) := by decide +kernel
theorem dX1_greatest_131 : decode cX1_greatest 131 = .ok (.iadd, 1) := by decide +kernel
theorem dX1_greatest_132 : decode cX1_greatest 132 = .ok (.iload 4, 2) := by decide +kernel
theorem dX1_greatest_134 : decode cX1_greatest 134 = .ok (.iastore, 1) := by decide +kernel
theorem dX1_greatest_135 : decode cX1_greatest 135 = .ok (.iload 5, 2) := by decide +kernel
theorem dX1_greatest_137 : decode cX1_greatest 137 = .ok (.ireturn, 1) := by decide +kernel
end
section
set_option maxRecDepth 100000
abbrev cX1_releaseFor : ByteArray := prog_3_method_25_code
def yX1_releaseFor : MethodName := ⟨RX1, "releaseFor", "(II)I"⟩
theorem dX1_releaseFor_0 : decode cX1_releaseFor 0 = .ok (.aload_n 0, 1) := by decide +kernel
theorem dX1_releaseFor_1 : decode cX1_releaseFor 1 = .ok (.iload_n 1, 1) := by decide +kernel
theorem dX1_releaseFor_2 : decode cX1_releaseFor 2 = .ok (.iconst 0, 1) := by decide +kernel
theorem dX1_releaseFor_3 : decode cX1_releaseFor 3 = .ok (.iload_n 2, 1) := by decide +kernel
theorem dX1_releaseFor_4 : decode cX1_releaseFor 4 = .ok (.invokevirtual 70, 3) := by decide +kernel
theorem dX1_releaseFor_7 : decode cX1_releaseFor 7 = .ok (.ireturn, 1) := by decide +kernel
theorem q27 : (Jvm.Cond.initialized "HeadTailModel") ∈ lw_all := lw_g (lw_at lw_m1 2 rfl) rfl
theorem q186 : (Jvm.Cond.instantiable "HeadTailModel" (6 : Nat)) ∈ lw_all := lw_g (lw_at lw_m1 161 rfl) rfl
theorem q188 : (Jvm.Cond.instanceMethod ({ cls := "HeadTailModel", name := "<init>", desc := "()V" } : Jvm.MethodName)) ∈ lw_all := lw_g (lw_at lw_m1 163 rfl) rfl
theorem q189 : (Jvm.Cond.code ({ cls := "HeadTailModel", name := "<init>", desc := "()V" } : Jvm.MethodName) prog_3_method_1_code (1 : Nat) (Option.none : Option Jvm.ClassFile.FieldType)) ∈ lw_all := lw_g (lw_at lw_m1 164 rfl) rfl
theorem q190 : (Jvm.Cond.methodLink "HeadTailModel" (1 : Nat) ({ cls := "java/lang/Object", name := "<init>", desc := "()V" } : Jvm.MethodName)) ∈ lw_all := lw_g (lw_at lw_m1 165 rfl) rfl
theorem q191 : (Jvm.Cond.fieldLink "HeadTailModel" (7 : Nat) "HeadTailModel" "there" "[Z") ∈ lw_all := lw_g (lw_at lw_m1 166 rfl) rfl
theorem q192 : (Jvm.Cond.fieldLink "HeadTailModel" (13 : Nat) "HeadTailModel" "parts" "[I") ∈ lw_all := lw_g (lw_at lw_m1 167 rfl) rfl
theorem q193 : (Jvm.Cond.fieldLink "HeadTailModel" (35 : Nat) "HeadTailModel" "n" "I") ∈ lw_all := lw_g (lw_at lw_m1 168 rfl) rfl
theorem q194 : (Jvm.Cond.fieldLink "HeadTailModel" (39 : Nat) "HeadTailModel" "orders" "I") ∈ lw_all := lw_g (lw_at lw_m1 169 rfl) rfl
theorem q195 : (Jvm.Cond.fieldLink "HeadTailModel" (17 : Nat) "HeadTailModel" "list" "[I") ∈ lw_all := lw_g (lw_at lw_m1 170 rfl) rfl
theorem q196 : (Jvm.Cond.fieldLink "HeadTailModel" (20 : Nat) "HeadTailModel" "start" "[I") ∈ lw_all := lw_g (lw_at lw_m1 171 rfl) rfl
theorem q197 : (Jvm.Cond.lays "HeadTailModel" "HeadTailModel" "there" "[Z") ∈ lw_all := lw_g (lw_at lw_m1 172 rfl) rfl
theorem q198 : (Jvm.Cond.soleField "HeadTailModel" "there") ∈ lw_all := lw_g (lw_at lw_m1 173 rfl) rfl
theorem q199 : (Jvm.Cond.lays "HeadTailModel" "HeadTailModel" "parts" "[I") ∈ lw_all := lw_g (lw_at lw_m1 174 rfl) rfl
theorem q200 : (Jvm.Cond.soleField "HeadTailModel" "parts") ∈ lw_all := lw_g (lw_at lw_m1 175 rfl) rfl
theorem q201 : (Jvm.Cond.lays "HeadTailModel" "HeadTailModel" "n" "I") ∈ lw_all := lw_g (lw_at lw_m1 176 rfl) rfl
theorem q202 : (Jvm.Cond.soleField "HeadTailModel" "n") ∈ lw_all := lw_g (lw_at lw_m1 177 rfl) rfl
theorem q203 : (Jvm.Cond.lays "HeadTailModel" "HeadTailModel" "orders" "I") ∈ lw_all := lw_g (lw_at lw_m1 178 rfl) rfl
theorem q204 : (Jvm.Cond.soleField "HeadTailModel" "orders") ∈ lw_all := lw_g (lw_at lw_m1 179 rfl) rfl
theorem q205 : (Jvm.Cond.lays "HeadTailModel" "HeadTailModel" "list" "[I") ∈ lw_all := lw_g (lw_at lw_m1 180 rfl) rfl
theorem q206 : (Jvm.Cond.soleField "HeadTailModel" "list") ∈ lw_all := lw_g (lw_at lw_m1 181 rfl) rfl
theorem q207 : (Jvm.Cond.lays "HeadTailModel" "HeadTailModel" "start" "[I") ∈ lw_all := lw_g (lw_at lw_m1 182 rfl) rfl
theorem q208 : (Jvm.Cond.soleField "HeadTailModel" "start") ∈ lw_all := lw_g (lw_at lw_m1 183 rfl) rfl
theorem q209 : (Jvm.Cond.superclass "HeadTailModel" "java/lang/Object") ∈ lw_all := lw_g (lw_at lw_m1 184 rfl) rfl
theorem q212 : (Jvm.Cond.instanceMethod ({ cls := "HeadTailModel", name := "add", desc := "(III)I" } : Jvm.MethodName)) ∈ lw_all := lw_g (lw_at lw_m1 187 rfl) rfl
theorem q213 : (Jvm.Cond.selects "HeadTailModel" ({ cls := "HeadTailModel", name := "add", desc := "(III)I" } : Jvm.MethodName) ({ cls := "HeadTailModel", name := "add", desc := "(III)I" } : Jvm.MethodName)) ∈ lw_all := lw_g (lw_at lw_m1 188 rfl) rfl
theorem q214 : (Jvm.Cond.code ({ cls := "HeadTailModel", name := "add", desc := "(III)I" } : Jvm.MethodName) prog_3_method_5_code (5 : Nat) (Option.some Jvm.ClassFile.FieldType.int)) ∈ lw_all := lw_g (lw_at lw_m1 189 rfl) rfl
theorem q215 : (Jvm.Cond.methodLink "HeadTailModel" (23 : Nat) ({ cls := "HeadTailModel", name := "good", desc := "(III)Z" } : Jvm.MethodName)) ∈ lw_all := lw_g (lw_at lw_m1 190 rfl) rfl
theorem q216 : (Jvm.Cond.privateMethod ({ cls := "HeadTailModel", name := "good", desc := "(III)Z" } : Jvm.MethodName)) ∈ lw_tbl := lw_at lw_m1 191 rfl
theorem q217 : (Jvm.Cond.instanceMethod ({ cls := "HeadTailModel", name := "good", desc := "(III)Z" } : Jvm.MethodName)) ∈ lw_all := lw_g (lw_at lw_m1 192 rfl) rfl
theorem q218 : (Jvm.Cond.code ({ cls := "HeadTailModel", name := "good", desc := "(III)Z" } : Jvm.MethodName) prog_3_method_3_code (4 : Nat) (Option.some Jvm.ClassFile.FieldType.boolean)) ∈ lw_all := lw_g (lw_at lw_m1 193 rfl) rfl
theorem q219 : (Jvm.Cond.methodLink "HeadTailModel" (27 : Nat) ({ cls := "HeadTailModel", name := "hold", desc := "(IIII)V" } : Jvm.MethodName)) ∈ lw_all := lw_g (lw_at lw_m1 194 rfl) rfl
theorem q220 : (Jvm.Cond.privateMethod ({ cls := "HeadTailModel", name := "hold", desc := "(IIII)V" } : Jvm.MethodName)) ∈ lw_tbl := lw_at lw_m1 195 rfl
theorem q221 : (Jvm.Cond.instanceMethod ({ cls := "HeadTailModel", name := "hold", desc := "(IIII)V" } : Jvm.MethodName)) ∈ lw_all := lw_g (lw_at lw_m1 196 rfl) rfl
theorem q222 : (Jvm.Cond.code ({ cls := "HeadTailModel", name := "hold", desc := "(IIII)V" } : Jvm.MethodName) prog_3_method_4_code (5 : Nat) (Option.none : Option Jvm.ClassFile.FieldType)) ∈ lw_all := lw_g (lw_at lw_m1 197 rfl) rfl
theorem q224 : (Jvm.Cond.instanceMethod ({ cls := "HeadTailModel", name := "remove", desc := "(I)Z" } : Jvm.MethodName)) ∈ lw_all := lw_g (lw_at lw_m1 199 rfl) rfl
theorem q225 : (Jvm.Cond.selects "HeadTailModel" ({ cls := "HeadTailModel", name := "remove", desc := "(I)Z" } : Jvm.MethodName) ({ cls := "HeadTailModel", name := "remove", desc := "(I)Z" } : Jvm.MethodName)) ∈ lw_all := lw_g (lw_at lw_m1 200 rfl) rfl
theorem q226 : (Jvm.Cond.code ({ cls := "HeadTailModel", name := "remove", desc := "(I)Z" } : Jvm.MethodName) prog_3_method_6_code (2 : Nat) (Option.some Jvm.ClassFile.FieldType.boolean)) ∈ lw_all := lw_g (lw_at lw_m1 201 rfl) rfl
theorem q227 : (Jvm.Cond.methodLink "HeadTailModel" (31 : Nat) ({ cls := "HeadTailModel", name := "is", desc := "(I)Z" } : Jvm.MethodName)) ∈ lw_all := lw_g (lw_at lw_m1 202 rfl) rfl
theorem q228 : (Jvm.Cond.privateMethod ({ cls := "HeadTailModel", name := "is", desc := "(I)Z" } : Jvm.MethodName)) ∈ lw_tbl := lw_at lw_m1 203 rfl
theorem q229 : (Jvm.Cond.instanceMethod ({ cls := "HeadTailModel", name := "is", desc := "(I)Z" } : Jvm.MethodName)) ∈ lw_all := lw_g (lw_at lw_m1 204 rfl) rfl
theorem q230 : (Jvm.Cond.code ({ cls := "HeadTailModel", name := "is", desc := "(I)Z" } : Jvm.MethodName) prog_3_method_2_code (2 : Nat) (Option.some Jvm.ClassFile.FieldType.boolean)) ∈ lw_all := lw_g (lw_at lw_m1 205 rfl) rfl
theorem q232 : (Jvm.Cond.instanceMethod ({ cls := "HeadTailModel", name := "change", desc := "(IIII)Z" } : Jvm.MethodName)) ∈ lw_all := lw_g (lw_at lw_m1 207 rfl) rfl
theorem q233 : (Jvm.Cond.selects "HeadTailModel" ({ cls := "HeadTailModel", name := "change", desc := "(IIII)Z" } : Jvm.MethodName) ({ cls := "HeadTailModel", name := "change", desc := "(IIII)Z" } : Jvm.MethodName)) ∈ lw_all := lw_g (lw_at lw_m1 208 rfl) rfl
theorem q234 : (Jvm.Cond.code ({ cls := "HeadTailModel", name := "change", desc := "(IIII)Z" } : Jvm.MethodName) prog_3_method_7_code (5 : Nat) (Option.some Jvm.ClassFile.FieldType.boolean)) ∈ lw_all := lw_g (lw_at lw_m1 209 rfl) rfl
theorem q236 : (Jvm.Cond.instanceMethod ({ cls := "HeadTailModel", name := "jobs", desc := "()I" } : Jvm.MethodName)) ∈ lw_all := lw_g (lw_at lw_m1 211 rfl) rfl
theorem q237 : (Jvm.Cond.selects "HeadTailModel" ({ cls := "HeadTailModel", name := "jobs", desc := "()I" } : Jvm.MethodName) ({ cls := "HeadTailModel", name := "jobs", desc := "()I" } : Jvm.MethodName)) ∈ lw_all := lw_g (lw_at lw_m1 212 rfl) rfl
theorem q238 : (Jvm.Cond.code ({ cls := "HeadTailModel", name := "jobs", desc := "()I" } : Jvm.MethodName) prog_3_method_8_code (3 : Nat) (Option.some Jvm.ClassFile.FieldType.int)) ∈ lw_all := lw_g (lw_at lw_m1 213 rfl) rfl
theorem q240 : (Jvm.Cond.instanceMethod ({ cls := "HeadTailModel", name := "part", desc := "(II)I" } : Jvm.MethodName)) ∈ lw_all := lw_g (lw_at lw_m1 215 rfl) rfl
theorem q241 : (Jvm.Cond.selects "HeadTailModel" ({ cls := "HeadTailModel", name := "part", desc := "(II)I" } : Jvm.MethodName) ({ cls := "HeadTailModel", name := "part", desc := "(II)I" } : Jvm.MethodName)) ∈ lw_all := lw_g (lw_at lw_m1 216 rfl) rfl
theorem q242 : (Jvm.Cond.code ({ cls := "HeadTailModel", name := "part", desc := "(II)I" } : Jvm.MethodName) prog_3_method_9_code (3 : Nat) (Option.some Jvm.ClassFile.FieldType.int)) ∈ lw_all := lw_g (lw_at lw_m1 217 rfl) rfl
theorem q244 : (Jvm.Cond.instanceMethod ({ cls := "HeadTailModel", name := "least", desc := "()I" } : Jvm.MethodName)) ∈ lw_all := lw_g (lw_at lw_m1 219 rfl) rfl
theorem q245 : (Jvm.Cond.selects "HeadTailModel" ({ cls := "HeadTailModel", name := "least", desc := "()I" } : Jvm.MethodName) ({ cls := "HeadTailModel", name := "least", desc := "()I" } : Jvm.MethodName)) ∈ lw_all := lw_g (lw_at lw_m1 220 rfl) rfl
theorem q246 : (Jvm.Cond.code ({ cls := "HeadTailModel", name := "least", desc := "()I" } : Jvm.MethodName) prog_3_method_15_code (1 : Nat) (Option.some Jvm.ClassFile.FieldType.int)) ∈ lw_all := lw_g (lw_at lw_m1 221 rfl) rfl
theorem q247 : (Jvm.Cond.methodLink "HeadTailModel" (61 : Nat) ({ cls := "HeadTailModel", name := "leastOf", desc := "(II)I" } : Jvm.MethodName)) ∈ lw_all := lw_g (lw_at lw_m1 222 rfl) rfl
theorem q248 : (Jvm.Cond.privateMethod ({ cls := "HeadTailModel", name := "leastOf", desc := "(II)I" } : Jvm.MethodName)) ∈ lw_tbl := lw_at lw_m1 223 rfl
theorem q249 : (Jvm.Cond.instanceMethod ({ cls := "HeadTailModel", name := "leastOf", desc := "(II)I" } : Jvm.MethodName)) ∈ lw_all := lw_g (lw_at lw_m1 224 rfl) rfl
theorem q250 : (Jvm.Cond.code ({ cls := "HeadTailModel", name := "leastOf", desc := "(II)I" } : Jvm.MethodName) prog_3_method_14_code (6 : Nat) (Option.some Jvm.ClassFile.FieldType.int)) ∈ lw_all := lw_g (lw_at lw_m1 225 rfl) rfl
theorem q251 : (Jvm.Cond.methodLink "HeadTailModel" (50 : Nat) ({ cls := "HeadTailModel", name := "count", desc := "()V" } : Jvm.MethodName)) ∈ lw_all := lw_g (lw_at lw_m1 226 rfl) rfl
theorem q252 : (Jvm.Cond.privateMethod ({ cls := "HeadTailModel", name := "count", desc := "()V" } : Jvm.MethodName)) ∈ lw_tbl := lw_at lw_m1 227 rfl
theorem q253 : (Jvm.Cond.instanceMethod ({ cls := "HeadTailModel", name := "count", desc := "()V" } : Jvm.MethodName)) ∈ lw_all := lw_g (lw_at lw_m1 228 rfl) rfl
theorem q254 : (Jvm.Cond.code ({ cls := "HeadTailModel", name := "count", desc := "()V" } : Jvm.MethodName) prog_3_method_10_code (2 : Nat) (Option.none : Option Jvm.ClassFile.FieldType)) ∈ lw_all := lw_g (lw_at lw_m1 229 rfl) rfl
theorem q255 : (Jvm.Cond.constant "HeadTailModel" (53 : Nat) (100000 : Int32)) ∈ lw_all := lw_g (lw_at lw_m1 230 rfl) rfl
theorem q256 : (Jvm.Cond.methodLink "HeadTailModel" (54 : Nat) ({ cls := "HeadTailModel", name := "spell", desc := "(I)I" } : Jvm.MethodName)) ∈ lw_all := lw_g (lw_at lw_m1 231 rfl) rfl
theorem q257 : (Jvm.Cond.privateMethod ({ cls := "HeadTailModel", name := "spell", desc := "(I)I" } : Jvm.MethodName)) ∈ lw_tbl := lw_at lw_m1 232 rfl
theorem q258 : (Jvm.Cond.instanceMethod ({ cls := "HeadTailModel", name := "spell", desc := "(I)I" } : Jvm.MethodName)) ∈ lw_all := lw_g (lw_at lw_m1 233 rfl) rfl
theorem q259 : (Jvm.Cond.code ({ cls := "HeadTailModel", name := "spell", desc := "(I)I" } : Jvm.MethodName) prog_3_method_11_code (10 : Nat) (Option.some Jvm.ClassFile.FieldType.int)) ∈ lw_all := lw_g (lw_at lw_m1 234 rfl) rfl
theorem q260 : (Jvm.Cond.methodLink "HeadTailModel" (42 : Nat) ({ cls := "HeadTailModel", name := "jobs", desc := "()I" } : Jvm.MethodName)) ∈ lw_all := lw_g (lw_at lw_m1 235 rfl) rfl
theorem q261 : (Jvm.Cond.methodLink "HeadTailModel" (46 : Nat) ({ cls := "HeadTailModel", name := "nth", desc := "(II)I" } : Jvm.MethodName)) ∈ lw_all := lw_g (lw_at lw_m1 236 rfl) rfl
theorem q262 : (Jvm.Cond.privateMethod ({ cls := "HeadTailModel", name := "nth", desc := "(II)I" } : Jvm.MethodName)) ∈ lw_tbl := lw_at lw_m1 237 rfl
theorem q263 : (Jvm.Cond.instanceMethod ({ cls := "HeadTailModel", name := "nth", desc := "(II)I" } : Jvm.MethodName)) ∈ lw_all := lw_g (lw_at lw_m1 238 rfl) rfl
theorem q264 : (Jvm.Cond.code ({ cls := "HeadTailModel", name := "nth", desc := "(II)I" } : Jvm.MethodName) prog_3_method_12_code (5 : Nat) (Option.some Jvm.ClassFile.FieldType.int)) ∈ lw_all := lw_g (lw_at lw_m1 239 rfl) rfl
theorem q265 : (Jvm.Cond.methodLink "HeadTailModel" (58 : Nat) ({ cls := "HeadTailModel", name := "place", desc := "(I)I" } : Jvm.MethodName)) ∈ lw_all := lw_g (lw_at lw_m2 0 rfl) rfl
theorem q266 : (Jvm.Cond.privateMethod ({ cls := "HeadTailModel", name := "place", desc := "(I)I" } : Jvm.MethodName)) ∈ lw_tbl := lw_at lw_m2 1 rfl
theorem q267 : (Jvm.Cond.instanceMethod ({ cls := "HeadTailModel", name := "place", desc := "(I)I" } : Jvm.MethodName)) ∈ lw_all := lw_g (lw_at lw_m2 2 rfl) rfl
theorem q268 : (Jvm.Cond.code ({ cls := "HeadTailModel", name := "place", desc := "(I)I" } : Jvm.MethodName) prog_3_method_13_code (4 : Nat) (Option.some Jvm.ClassFile.FieldType.int)) ∈ lw_all := lw_g (lw_at lw_m2 3 rfl) rfl
theorem q270 : (Jvm.Cond.instanceMethod ({ cls := "HeadTailModel", name := "bestAt", desc := "(I)I" } : Jvm.MethodName)) ∈ lw_all := lw_g (lw_at lw_m2 5 rfl) rfl
theorem q271 : (Jvm.Cond.selects "HeadTailModel" ({ cls := "HeadTailModel", name := "bestAt", desc := "(I)I" } : Jvm.MethodName) ({ cls := "HeadTailModel", name := "bestAt", desc := "(I)I" } : Jvm.MethodName)) ∈ lw_all := lw_g (lw_at lw_m2 6 rfl) rfl
theorem q272 : (Jvm.Cond.code ({ cls := "HeadTailModel", name := "bestAt", desc := "(I)I" } : Jvm.MethodName) prog_3_method_17_code (2 : Nat) (Option.some Jvm.ClassFile.FieldType.int)) ∈ lw_all := lw_g (lw_at lw_m2 7 rfl) rfl
theorem q273 : (Jvm.Cond.methodLink "HeadTailModel" (64 : Nat) ({ cls := "HeadTailModel", name := "best", desc := "()V" } : Jvm.MethodName)) ∈ lw_all := lw_g (lw_at lw_m2 8 rfl) rfl
theorem q274 : (Jvm.Cond.privateMethod ({ cls := "HeadTailModel", name := "best", desc := "()V" } : Jvm.MethodName)) ∈ lw_tbl := lw_at lw_m2 9 rfl
theorem q275 : (Jvm.Cond.instanceMethod ({ cls := "HeadTailModel", name := "best", desc := "()V" } : Jvm.MethodName)) ∈ lw_all := lw_g (lw_at lw_m2 10 rfl) rfl
theorem q276 : (Jvm.Cond.code ({ cls := "HeadTailModel", name := "best", desc := "()V" } : Jvm.MethodName) prog_3_method_16_code (3 : Nat) (Option.none : Option Jvm.ClassFile.FieldType)) ∈ lw_all := lw_g (lw_at lw_m2 11 rfl) rfl
theorem q278 : (Jvm.Cond.instanceMethod ({ cls := "HeadTailModel", name := "begins", desc := "(I)I" } : Jvm.MethodName)) ∈ lw_all := lw_g (lw_at lw_m2 13 rfl) rfl
theorem q279 : (Jvm.Cond.selects "HeadTailModel" ({ cls := "HeadTailModel", name := "begins", desc := "(I)I" } : Jvm.MethodName) ({ cls := "HeadTailModel", name := "begins", desc := "(I)I" } : Jvm.MethodName)) ∈ lw_all := lw_g (lw_at lw_m2 14 rfl) rfl
theorem q280 : (Jvm.Cond.code ({ cls := "HeadTailModel", name := "begins", desc := "(I)I" } : Jvm.MethodName) prog_3_method_18_code (2 : Nat) (Option.some Jvm.ClassFile.FieldType.int)) ∈ lw_all := lw_g (lw_at lw_m2 15 rfl) rfl
theorem q282 : (Jvm.Cond.instanceMethod ({ cls := "HeadTailModel", name := "leastWith", desc := "(II)I" } : Jvm.MethodName)) ∈ lw_all := lw_g (lw_at lw_m2 17 rfl) rfl
theorem q283 : (Jvm.Cond.selects "HeadTailModel" ({ cls := "HeadTailModel", name := "leastWith", desc := "(II)I" } : Jvm.MethodName) ({ cls := "HeadTailModel", name := "leastWith", desc := "(II)I" } : Jvm.MethodName)) ∈ lw_all := lw_g (lw_at lw_m2 18 rfl) rfl
theorem q284 : (Jvm.Cond.code ({ cls := "HeadTailModel", name := "leastWith", desc := "(II)I" } : Jvm.MethodName) prog_3_method_19_code (3 : Nat) (Option.some Jvm.ClassFile.FieldType.int)) ∈ lw_all := lw_g (lw_at lw_m2 19 rfl) rfl
theorem q286 : (Jvm.Cond.instanceMethod ({ cls := "HeadTailModel", name := "leastFirst", desc := "(I)I" } : Jvm.MethodName)) ∈ lw_all := lw_g (lw_at lw_m2 21 rfl) rfl
theorem q287 : (Jvm.Cond.selects "HeadTailModel" ({ cls := "HeadTailModel", name := "leastFirst", desc := "(I)I" } : Jvm.MethodName) ({ cls := "HeadTailModel", name := "leastFirst", desc := "(I)I" } : Jvm.MethodName)) ∈ lw_all := lw_g (lw_at lw_m2 22 rfl) rfl
theorem q288 : (Jvm.Cond.code ({ cls := "HeadTailModel", name := "leastFirst", desc := "(I)I" } : Jvm.MethodName) prog_3_method_20_code (5 : Nat) (Option.some Jvm.ClassFile.FieldType.int)) ∈ lw_all := lw_g (lw_at lw_m2 23 rfl) rfl
theorem q290 : (Jvm.Cond.instanceMethod ({ cls := "HeadTailModel", name := "interrupted", desc := "()I" } : Jvm.MethodName)) ∈ lw_all := lw_g (lw_at lw_m2 25 rfl) rfl
theorem q291 : (Jvm.Cond.selects "HeadTailModel" ({ cls := "HeadTailModel", name := "interrupted", desc := "()I" } : Jvm.MethodName) ({ cls := "HeadTailModel", name := "interrupted", desc := "()I" } : Jvm.MethodName)) ∈ lw_all := lw_g (lw_at lw_m2 26 rfl) rfl
theorem q292 : (Jvm.Cond.code ({ cls := "HeadTailModel", name := "interrupted", desc := "()I" } : Jvm.MethodName) prog_3_method_21_code (4 : Nat) (Option.some Jvm.ClassFile.FieldType.int)) ∈ lw_all := lw_g (lw_at lw_m2 27 rfl) rfl
theorem q293 : (Jvm.Cond.methodLink "HeadTailModel" (67 : Nat) ({ cls := "HeadTailModel", name := "bound", desc := "(I)I" } : Jvm.MethodName)) ∈ lw_all := lw_g (lw_at lw_m2 28 rfl) rfl
theorem q294 : (Jvm.Cond.privateMethod ({ cls := "HeadTailModel", name := "bound", desc := "(I)I" } : Jvm.MethodName)) ∈ lw_tbl := lw_at lw_m2 29 rfl
theorem q295 : (Jvm.Cond.instanceMethod ({ cls := "HeadTailModel", name := "bound", desc := "(I)I" } : Jvm.MethodName)) ∈ lw_all := lw_g (lw_at lw_m2 30 rfl) rfl
theorem q296 : (Jvm.Cond.code ({ cls := "HeadTailModel", name := "bound", desc := "(I)I" } : Jvm.MethodName) prog_3_method_22_code (6 : Nat) (Option.some Jvm.ClassFile.FieldType.int)) ∈ lw_all := lw_g (lw_at lw_m2 31 rfl) rfl
theorem q298 : (Jvm.Cond.instanceMethod ({ cls := "HeadTailModel", name := "tailFor", desc := "(II)I" } : Jvm.MethodName)) ∈ lw_all := lw_g (lw_at lw_m2 33 rfl) rfl
theorem q299 : (Jvm.Cond.selects "HeadTailModel" ({ cls := "HeadTailModel", name := "tailFor", desc := "(II)I" } : Jvm.MethodName) ({ cls := "HeadTailModel", name := "tailFor", desc := "(II)I" } : Jvm.MethodName)) ∈ lw_all := lw_g (lw_at lw_m2 34 rfl) rfl
theorem q300 : (Jvm.Cond.code ({ cls := "HeadTailModel", name := "tailFor", desc := "(II)I" } : Jvm.MethodName) prog_3_method_24_code (3 : Nat) (Option.some Jvm.ClassFile.FieldType.int)) ∈ lw_all := lw_g (lw_at lw_m2 35 rfl) rfl
theorem q301 : (Jvm.Cond.methodLink "HeadTailModel" (70 : Nat) ({ cls := "HeadTailModel", name := "greatest", desc := "(III)I" } : Jvm.MethodName)) ∈ lw_all := lw_g (lw_at lw_m2 36 rfl) rfl
theorem q302 : (Jvm.Cond.privateMethod ({ cls := "HeadTailModel", name := "greatest", desc := "(III)I" } : Jvm.MethodName)) ∈ lw_tbl := lw_at lw_m2 37 rfl
theorem q303 : (Jvm.Cond.instanceMethod ({ cls := "HeadTailModel", name := "greatest", desc := "(III)I" } : Jvm.MethodName)) ∈ lw_all := lw_g (lw_at lw_m2 38 rfl) rfl
theorem q304 : (Jvm.Cond.code ({ cls := "HeadTailModel", name := "greatest", desc := "(III)I" } : Jvm.MethodName) prog_3_method_23_code (8 : Nat) (Option.some Jvm.ClassFile.FieldType.int)) ∈ lw_all := lw_g (lw_at lw_m2 39 rfl) rfl
theorem q306 : (Jvm.Cond.instanceMethod ({ cls := "HeadTailModel", name := "releaseFor", desc := "(II)I" } : Jvm.MethodName)) ∈ lw_all := lw_g (lw_at lw_m2 41 rfl) rfl
theorem q307 : (Jvm.Cond.selects "HeadTailModel" ({ cls := "HeadTailModel", name := "releaseFor", desc := "(II)I" } : Jvm.MethodName) ({ cls := "HeadTailModel", name := "releaseFor", desc := "(II)I" } : Jvm.MethodName)) ∈ lw_all := lw_g (lw_at lw_m2 42 rfl) rfl
theorem q308 : (Jvm.Cond.code ({ cls := "HeadTailModel", name := "releaseFor", desc := "(II)I" } : Jvm.MethodName) prog_3_method_25_code (3 : Nat) (Option.some Jvm.ClassFile.FieldType.int)) ∈ lw_all := lw_g (lw_at lw_m2 43 rfl) rfl
theorem in_X1 : ∀ w ∈ wsX10, w ∈ lw_all := lw_in wsX10 [197, 199, 201, 203, 205, 207] (by decide +kernel) (by decide +kernel)
end
section
set_option maxRecDepth 100000
/-! java/lang/Object -/
def RJ0 : String := "java/lang/Object"
abbrev cJ0_init : ByteArray := object_method_1_code
def yJ0_init : MethodName := ⟨RJ0, "<init>", "()V"⟩
theorem dJ0_init_0 : decode cJ0_init 0 = .ok (.return_, 1) := by decide +kernel
theorem q34 : (Jvm.Cond.instanceMethod ({ cls := "java/lang/Object", name := "<init>", desc := "()V" } : Jvm.MethodName)) ∈ lw_all := lw_g (lw_at lw_m1 9 rfl) rfl
theorem q35 : (Jvm.Cond.code ({ cls := "java/lang/Object", name := "<init>", desc := "()V" } : Jvm.MethodName) object_method_1_code (1 : Nat) (Option.none : Option Jvm.ClassFile.FieldType)) ∈ lw_all := lw_g (lw_at lw_m1 10 rfl) rfl

theorem q70 : (Jvm.Cond.arrayClass Jvm.ClassFile.FieldType.short) ∈ lw_all := lw_g (lw_at lw_m1 45 rfl) rfl
theorem q71 : (Jvm.Cond.arrayClass Jvm.ClassFile.FieldType.byte) ∈ lw_all := lw_g (lw_at lw_m1 46 rfl) rfl
theorem q72 : (Jvm.Cond.arrayClass Jvm.ClassFile.FieldType.int) ∈ lw_all := lw_g (lw_at lw_m1 47 rfl) rfl
theorem q210 : (Jvm.Cond.arrayClass Jvm.ClassFile.FieldType.boolean) ∈ lw_all := lw_g (lw_at lw_m1 185 rfl) rfl

theorem q25 : (Jvm.Cond.initialized "HeadTailLaw") ∈ lw_all := lw_g (lw_at lw_m1 0 rfl) rfl
theorem q28 : (Jvm.Cond.classLink "HeadTailLaw" (7 : Nat) "HeadTail") ∈ lw_all := lw_g (lw_at lw_m1 3 rfl) rfl
theorem q30 : (Jvm.Cond.methodLink "HeadTailLaw" (9 : Nat) ({ cls := "HeadTail", name := "<init>", desc := "()V" } : Jvm.MethodName)) ∈ lw_all := lw_g (lw_at lw_m1 5 rfl) rfl
theorem q73 : (Jvm.Cond.methodLink "HeadTailLaw" (13 : Nat) ({ cls := "HeadTail", name := "add", desc := "(III)I" } : Jvm.MethodName)) ∈ lw_all := lw_g (lw_at lw_m1 48 rfl) rfl
theorem q88 : (Jvm.Cond.methodLink "HeadTailLaw" (18 : Nat) ({ cls := "HeadTail", name := "remove", desc := "(I)Z" } : Jvm.MethodName)) ∈ lw_all := lw_g (lw_at lw_m1 63 rfl) rfl
theorem q92 : (Jvm.Cond.methodLink "HeadTailLaw" (23 : Nat) ({ cls := "HeadTail", name := "change", desc := "(IIII)Z" } : Jvm.MethodName)) ∈ lw_all := lw_g (lw_at lw_m1 67 rfl) rfl
theorem q96 : (Jvm.Cond.methodLink "HeadTailLaw" (28 : Nat) ({ cls := "HeadTail", name := "jobs", desc := "()I" } : Jvm.MethodName)) ∈ lw_all := lw_g (lw_at lw_m1 71 rfl) rfl
theorem q100 : (Jvm.Cond.methodLink "HeadTailLaw" (33 : Nat) ({ cls := "HeadTail", name := "part", desc := "(II)I" } : Jvm.MethodName)) ∈ lw_all := lw_g (lw_at lw_m1 75 rfl) rfl
theorem q104 : (Jvm.Cond.methodLink "HeadTailLaw" (38 : Nat) ({ cls := "HeadTail", name := "least", desc := "()I" } : Jvm.MethodName)) ∈ lw_all := lw_g (lw_at lw_m1 79 rfl) rfl
theorem q153 : (Jvm.Cond.methodLink "HeadTailLaw" (42 : Nat) ({ cls := "HeadTail", name := "bestAt", desc := "(I)I" } : Jvm.MethodName)) ∈ lw_all := lw_g (lw_at lw_m1 128 rfl) rfl
theorem q157 : (Jvm.Cond.methodLink "HeadTailLaw" (47 : Nat) ({ cls := "HeadTail", name := "begins", desc := "(I)I" } : Jvm.MethodName)) ∈ lw_all := lw_g (lw_at lw_m1 132 rfl) rfl
theorem q161 : (Jvm.Cond.methodLink "HeadTailLaw" (51 : Nat) ({ cls := "HeadTail", name := "leastWith", desc := "(II)I" } : Jvm.MethodName)) ∈ lw_all := lw_g (lw_at lw_m1 136 rfl) rfl
theorem q165 : (Jvm.Cond.methodLink "HeadTailLaw" (55 : Nat) ({ cls := "HeadTail", name := "leastFirst", desc := "(I)I" } : Jvm.MethodName)) ∈ lw_all := lw_g (lw_at lw_m1 140 rfl) rfl
theorem q169 : (Jvm.Cond.methodLink "HeadTailLaw" (59 : Nat) ({ cls := "HeadTail", name := "interrupted", desc := "()I" } : Jvm.MethodName)) ∈ lw_all := lw_g (lw_at lw_m1 144 rfl) rfl
theorem q173 : (Jvm.Cond.methodLink "HeadTailLaw" (63 : Nat) ({ cls := "HeadTail", name := "tailFor", desc := "(II)I" } : Jvm.MethodName)) ∈ lw_all := lw_g (lw_at lw_m1 148 rfl) rfl
theorem q181 : (Jvm.Cond.methodLink "HeadTailLaw" (67 : Nat) ({ cls := "HeadTail", name := "releaseFor", desc := "(II)I" } : Jvm.MethodName)) ∈ lw_all := lw_g (lw_at lw_m1 156 rfl) rfl
theorem q185 : (Jvm.Cond.classLink "HeadTailLaw" (10 : Nat) "HeadTailModel") ∈ lw_all := lw_g (lw_at lw_m1 160 rfl) rfl
theorem q187 : (Jvm.Cond.methodLink "HeadTailLaw" (12 : Nat) ({ cls := "HeadTailModel", name := "<init>", desc := "()V" } : Jvm.MethodName)) ∈ lw_all := lw_g (lw_at lw_m1 162 rfl) rfl
theorem q211 : (Jvm.Cond.methodLink "HeadTailLaw" (17 : Nat) ({ cls := "HeadTailModel", name := "add", desc := "(III)I" } : Jvm.MethodName)) ∈ lw_all := lw_g (lw_at lw_m1 186 rfl) rfl
theorem q223 : (Jvm.Cond.methodLink "HeadTailLaw" (22 : Nat) ({ cls := "HeadTailModel", name := "remove", desc := "(I)Z" } : Jvm.MethodName)) ∈ lw_all := lw_g (lw_at lw_m1 198 rfl) rfl
theorem q231 : (Jvm.Cond.methodLink "HeadTailLaw" (27 : Nat) ({ cls := "HeadTailModel", name := "change", desc := "(IIII)Z" } : Jvm.MethodName)) ∈ lw_all := lw_g (lw_at lw_m1 206 rfl) rfl
theorem q235 : (Jvm.Cond.methodLink "HeadTailLaw" (32 : Nat) ({ cls := "HeadTailModel", name := "jobs", desc := "()I" } : Jvm.MethodName)) ∈ lw_all := lw_g (lw_at lw_m1 210 rfl) rfl
theorem q239 : (Jvm.Cond.methodLink "HeadTailLaw" (37 : Nat) ({ cls := "HeadTailModel", name := "part", desc := "(II)I" } : Jvm.MethodName)) ∈ lw_all := lw_g (lw_at lw_m1 214 rfl) rfl
theorem q243 : (Jvm.Cond.methodLink "HeadTailLaw" (41 : Nat) ({ cls := "HeadTailModel", name := "least", desc := "()I" } : Jvm.MethodName)) ∈ lw_all := lw_g (lw_at lw_m1 218 rfl) rfl
theorem q269 : (Jvm.Cond.methodLink "HeadTailLaw" (46 : Nat) ({ cls := "HeadTailModel", name := "bestAt", desc := "(I)I" } : Jvm.MethodName)) ∈ lw_all := lw_g (lw_at lw_m2 4 rfl) rfl
theorem q277 : (Jvm.Cond.methodLink "HeadTailLaw" (50 : Nat) ({ cls := "HeadTailModel", name := "begins", desc := "(I)I" } : Jvm.MethodName)) ∈ lw_all := lw_g (lw_at lw_m2 12 rfl) rfl
theorem q281 : (Jvm.Cond.methodLink "HeadTailLaw" (54 : Nat) ({ cls := "HeadTailModel", name := "leastWith", desc := "(II)I" } : Jvm.MethodName)) ∈ lw_all := lw_g (lw_at lw_m2 16 rfl) rfl
theorem q285 : (Jvm.Cond.methodLink "HeadTailLaw" (58 : Nat) ({ cls := "HeadTailModel", name := "leastFirst", desc := "(I)I" } : Jvm.MethodName)) ∈ lw_all := lw_g (lw_at lw_m2 20 rfl) rfl
theorem q289 : (Jvm.Cond.methodLink "HeadTailLaw" (62 : Nat) ({ cls := "HeadTailModel", name := "interrupted", desc := "()I" } : Jvm.MethodName)) ∈ lw_all := lw_g (lw_at lw_m2 24 rfl) rfl
theorem q297 : (Jvm.Cond.methodLink "HeadTailLaw" (66 : Nat) ({ cls := "HeadTailModel", name := "tailFor", desc := "(II)I" } : Jvm.MethodName)) ∈ lw_all := lw_g (lw_at lw_m2 32 rfl) rfl
theorem q305 : (Jvm.Cond.methodLink "HeadTailLaw" (70 : Nat) ({ cls := "HeadTailModel", name := "releaseFor", desc := "(II)I" } : Jvm.MethodName)) ∈ lw_all := lw_g (lw_at lw_m2 40 rfl) rfl

/-! the law's own entry -/
abbrev cL_law : ByteArray := code
theorem dL_law_0 : decode cL_law 0 = .ok (.new 7, 3) := by decide +kernel
theorem dL_law_3 : decode cL_law 3 = .ok (.dup, 1) := by decide +kernel
theorem dL_law_4 : decode cL_law 4 = .ok (.invokespecial 9, 3) := by decide +kernel
theorem dL_law_7 : decode cL_law 7 = .ok (.astore_n 1, 1) := by decide +kernel
theorem dL_law_8 : decode cL_law 8 = .ok (.new 10, 3) := by decide +kernel
theorem dL_law_11 : decode cL_law 11 = .ok (.dup, 1) := by decide +kernel
theorem dL_law_12 : decode cL_law 12 = .ok (.invokespecial 12, 3) := by decide +kernel
theorem dL_law_15 : decode cL_law 15 = .ok (.astore_n 2, 1) := by decide +kernel
theorem dL_law_16 : decode cL_law 16 = .ok (.iconst 0, 1) := by decide +kernel
theorem dL_law_17 : decode cL_law 17 = .ok (.istore_n 3, 1) := by decide +kernel
theorem dL_law_18 : decode cL_law 18 = .ok (.iload_n 3, 1) := by decide +kernel
theorem dL_law_19 : decode cL_law 19 = .ok (.aload_n 0, 1) := by decide +kernel
theorem dL_law_20 : decode cL_law 20 = .ok (.arraylength, 1) := by decide +kernel
theorem dL_law_21 : decode cL_law 21 = .ok (.iconst 5, 1) := by decide +kernel
theorem dL_law_22 : decode cL_law 22 = .ok (.isub, 1) := by decide +kernel
theorem dL_law_23 : decode cL_law 23 = .ok (.if_icmp .gt 442, 3) := by decide +kernel
theorem dL_law_26 : decode cL_law 26 = .ok (.aload_n 0, 1) := by decide +kernel
theorem dL_law_27 : decode cL_law 27 = .ok (.iload_n 3, 1) := by decide +kernel
theorem dL_law_28 : decode cL_law 28 = .ok (.iaload, 1) := by decide +kernel
theorem dL_law_29 : decode cL_law 29 = .ok (.bipush 15, 2) := by decide +kernel
theorem dL_law_31 : decode cL_law 31 = .ok (.iand, 1) := by decide +kernel
theorem dL_law_32 : decode cL_law 32 = .ok (.tableswitch 427 0 12 #[68, 111, 134, 187, 200, 233, 246, 269, 292, 325, 348, 361, 394], 68) := by decide +kernel
theorem dL_law_100 : decode cL_law 100 = .ok (.aload_n 1, 1) := by decide +kernel
theorem dL_law_101 : decode cL_law 101 = .ok (.aload_n 0, 1) := by decide +kernel
theorem dL_law_102 : decode cL_law 102 = .ok (.iload_n 3, 1) := by decide +kernel
theorem dL_law_103 : decode cL_law 103 = .ok (.iconst 1, 1) := by decide +kernel
theorem dL_law_104 : decode cL_law 104 = .ok (.iadd, 1) := by decide +kernel
theorem dL_law_105 : decode cL_law 105 = .ok (.iaload, 1) := by decide +kernel
theorem dL_law_106 : decode cL_law 106 = .ok (.aload_n 0, 1) := by decide +kernel
theorem dL_law_107 : decode cL_law 107 = .ok (.iload_n 3, 1) := by decide +kernel
theorem dL_law_108 : decode cL_law 108 = .ok (.iconst 2, 1) := by decide +kernel
theorem dL_law_109 : decode cL_law 109 = .ok (.iadd, 1) := by decide +kernel
theorem dL_law_110 : decode cL_law 110 = .ok (.iaload, 1) := by decide +kernel
theorem dL_law_111 : decode cL_law 111 = .ok (.aload_n 0, 1) := by decide +kernel
theorem dL_law_112 : decode cL_law 112 = .ok (.iload_n 3, 1) := by decide +kernel
theorem dL_law_113 : decode cL_law 113 = .ok (.iconst 3, 1) := by decide +kernel
theorem dL_law_114 : decode cL_law 114 = .ok (.iadd, 1) := by decide +kernel
theorem dL_law_115 : decode cL_law 115 = .ok (.iaload, 1) := by decide +kernel
theorem dL_law_116 : decode cL_law 116 = .ok (.invokevirtual 13, 3) := by decide +kernel
theorem dL_law_119 : decode cL_law 119 = .ok (.aload_n 2, 1) := by decide +kernel
theorem dL_law_120 : decode cL_law 120 = .ok (.aload_n 0, 1) := by decide +kernel
theorem dL_law_121 : decode cL_law 121 = .ok (.iload_n 3, 1) := by decide +kernel
theorem dL_law_122 : decode cL_law 122 = .ok (.iconst 1, 1) := by decide +kernel
theorem dL_law_123 : decode cL_law 123 = .ok (.iadd, 1) := by decide +kernel
theorem dL_law_124 : decode cL_law 124 = .ok (.iaload, 1) := by decide +kernel
theorem dL_law_125 : decode cL_law 125 = .ok (.aload_n 0, 1) := by decide +kernel
theorem dL_law_126 : decode cL_law 126 = .ok (.iload_n 3, 1) := by decide +kernel
theorem dL_law_127 : decode cL_law 127 = .ok (.iconst 2, 1) := by decide +kernel
theorem dL_law_128 : decode cL_law 128 = .ok (.iadd, 1) := by decide +kernel
theorem dL_law_129 : decode cL_law 129 = .ok (.iaload, 1) := by decide +kernel
theorem dL_law_130 : decode cL_law 130 = .ok (.aload_n 0, 1) := by decide +kernel
theorem dL_law_131 : decode cL_law 131 = .ok (.iload_n 3, 1) := by decide +kernel
theorem dL_law_132 : decode cL_law 132 = .ok (.iconst 3, 1) := by decide +kernel
theorem dL_law_133 : decode cL_law 133 = .ok (.iadd, 1) := by decide +kernel
theorem dL_law_134 : decode cL_law 134 = .ok (.iaload, 1) := by decide +kernel
theorem dL_law_135 : decode cL_law 135 = .ok (.invokevirtual 17, 3) := by decide +kernel
theorem dL_law_138 : decode cL_law 138 = .ok (.if_icmp .eq 321, 3) := by decide +kernel
theorem dL_law_141 : decode cL_law 141 = .ok (.iconst 0, 1) := by decide +kernel
theorem dL_law_142 : decode cL_law 142 = .ok (.ireturn, 1) := by decide +kernel
theorem dL_law_143 : decode cL_law 143 = .ok (.aload_n 1, 1) := by decide +kernel
theorem dL_law_144 : decode cL_law 144 = .ok (.aload_n 0, 1) := by decide +kernel
theorem dL_law_145 : decode cL_law 145 = .ok (.iload_n 3, 1) := by decide +kernel
theorem dL_law_146 : decode cL_law 146 = .ok (.iconst 1, 1) := by decide +kernel
theorem dL_law_147 : decode cL_law 147 = .ok (.iadd, 1) := by decide +kernel
theorem dL_law_148 : decode cL_law 148 = .ok (.iaload, 1) := by decide +kernel
theorem dL_law_149 : decode cL_law 149 = .ok (.invokevirtual 18, 3) := by decide +kernel
theorem dL_law_152 : decode cL_law 152 = .ok (.aload_n 2, 1) := by decide +kernel
theorem dL_law_153 : decode cL_law 153 = .ok (.aload_n 0, 1) := by decide +kernel
theorem dL_law_154 : decode cL_law 154 = .ok (.iload_n 3, 1) := by decide +kernel
theorem dL_law_155 : decode cL_law 155 = .ok (.iconst 1, 1) := by decide +kernel
theorem dL_law_156 : decode cL_law 156 = .ok (.iadd, 1) := by decide +kernel
theorem dL_law_157 : decode cL_law 157 = .ok (.iaload, 1) := by decide +kernel
theorem dL_law_158 : decode cL_law 158 = .ok (.invokevirtual 22, 3) := by decide +kernel
theorem dL_law_161 : decode cL_law 161 = .ok (.if_icmp .eq 298, 3) := by decide +kernel
theorem dL_law_164 : decode cL_law 164 = .ok (.iconst 0, 1) := by decide +kernel
theorem dL_law_165 : decode cL_law 165 = .ok (.ireturn, 1) := by decide +kernel
theorem dL_law_166 : decode cL_law 166 = .ok (.aload_n 1, 1) := by decide +kernel
theorem dL_law_167 : decode cL_law 167 = .ok (.aload_n 0, 1) := by decide +kernel
theorem dL_law_168 : decode cL_law 168 = .ok (.iload_n 3, 1) := by decide +kernel
theorem dL_law_169 : decode cL_law 169 = .ok (.iconst 1, 1) := by decide +kernel
theorem dL_law_170 : decode cL_law 170 = .ok (.iadd, 1) := by decide +kernel
theorem dL_law_171 : decode cL_law 171 = .ok (.iaload, 1) := by decide +kernel
theorem dL_law_172 : decode cL_law 172 = .ok (.aload_n 0, 1) := by decide +kernel
theorem dL_law_173 : decode cL_law 173 = .ok (.iload_n 3, 1) := by decide +kernel
theorem dL_law_174 : decode cL_law 174 = .ok (.iconst 2, 1) := by decide +kernel
theorem dL_law_175 : decode cL_law 175 = .ok (.iadd, 1) := by decide +kernel
theorem dL_law_176 : decode cL_law 176 = .ok (.iaload, 1) := by decide +kernel
theorem dL_law_177 : decode cL_law 177 = .ok (.aload_n 0, 1) := by decide +kernel
theorem dL_law_178 : decode cL_law 178 = .ok (.iload_n 3, 1) := by decide +kernel
theorem dL_law_179 : decode cL_law 179 = .ok (.iconst 3, 1) := by decide +kernel
theorem dL_law_180 : decode cL_law 180 = .ok (.iadd, 1) := by decide +kernel
theorem dL_law_181 : decode cL_law 181 = .ok (.iaload, 1) := by decide +kernel
theorem dL_law_182 : decode cL_law 182 = .ok (.aload_n 0, 1) := by decide +kernel
theorem dL_law_183 : decode cL_law 183 = .ok (.iload_n 3, 1) := by decide +kernel
theorem dL_law_184 : decode cL_law 184 = .ok (.iconst 4, 1) := by decide +kernel
theorem dL_law_185 : decode cL_law 185 = .ok (.iadd, 1) := by decide +kernel
theorem dL_law_186 : decode cL_law 186 = .ok (.iaload, 1) := by decide +kernel
theorem dL_law_187 : decode cL_law 187 = .ok (.invokevirtual 23, 3) := by decide +kernel
theorem dL_law_190 : decode cL_law 190 = .ok (.aload_n 2, 1) := by decide +kernel
theorem dL_law_191 : decode cL_law 191 = .ok (.aload_n 0, 1) := by decide +kernel
theorem dL_law_192 : decode cL_law 192 = .ok (.iload_n 3, 1) := by decide +kernel
theorem dL_law_193 : decode cL_law 193 = .ok (.iconst 1, 1) := by decide +kernel
theorem dL_law_194 : decode cL_law 194 = .ok (.iadd, 1) := by decide +kernel
theorem dL_law_195 : decode cL_law 195 = .ok (.iaload, 1) := by decide +kernel
theorem dL_law_196 : decode cL_law 196 = .ok (.aload_n 0, 1) := by decide +kernel
theorem dL_law_197 : decode cL_law 197 = .ok (.iload_n 3, 1) := by decide +kernel
theorem dL_law_198 : decode cL_law 198 = .ok (.iconst 2, 1) := by decide +kernel
theorem dL_law_199 : decode cL_law 199 = .ok (.iadd, 1) := by decide +kernel
theorem dL_law_200 : decode cL_law 200 = .ok (.iaload, 1) := by decide +kernel
theorem dL_law_201 : decode cL_law 201 = .ok (.aload_n 0, 1) := by decide +kernel
theorem dL_law_202 : decode cL_law 202 = .ok (.iload_n 3, 1) := by decide +kernel
theorem dL_law_203 : decode cL_law 203 = .ok (.iconst 3, 1) := by decide +kernel
theorem dL_law_204 : decode cL_law 204 = .ok (.iadd, 1) := by decide +kernel
theorem dL_law_205 : decode cL_law 205 = .ok (.iaload, 1) := by decide +kernel
theorem dL_law_206 : decode cL_law 206 = .ok (.aload_n 0, 1) := by decide +kernel
theorem dL_law_207 : decode cL_law 207 = .ok (.iload_n 3, 1) := by decide +kernel
theorem dL_law_208 : decode cL_law 208 = .ok (.iconst 4, 1) := by decide +kernel
theorem dL_law_209 : decode cL_law 209 = .ok (.iadd, 1) := by decide +kernel
theorem dL_law_210 : decode cL_law 210 = .ok (.iaload, 1) := by decide +kernel
theorem dL_law_211 : decode cL_law 211 = .ok (.invokevirtual 27, 3) := by decide +kernel
theorem dL_law_214 : decode cL_law 214 = .ok (.if_icmp .eq 245, 3) := by decide +kernel
theorem dL_law_217 : decode cL_law 217 = .ok (.iconst 0, 1) := by decide +kernel
theorem dL_law_218 : decode cL_law 218 = .ok (.ireturn, 1) := by decide +kernel
theorem dL_law_219 : decode cL_law 219 = .ok (.aload_n 1, 1) := by decide +kernel
theorem dL_law_220 : decode cL_law 220 = .ok (.invokevirtual 28, 3) := by decide +kernel
theorem dL_law_223 : decode cL_law 223 = .ok (.aload_n 2, 1) := by decide +kernel
theorem dL_law_224 : decode cL_law 224 = .ok (.invokevirtual 32, 3) := by decide +kernel
theorem dL_law_227 : decode cL_law 227 = .ok (.if_icmp .eq 232, 3) := by decide +kernel
theorem dL_law_230 : decode cL_law 230 = .ok (.iconst 0, 1) := by decide +kernel
theorem dL_law_231 : decode cL_law 231 = .ok (.ireturn, 1) := by decide +kernel
theorem dL_law_232 : decode cL_law 232 = .ok (.aload_n 1, 1) := by decide +kernel
theorem dL_law_233 : decode cL_law 233 = .ok (.aload_n 0, 1) := by decide +kernel
theorem dL_law_234 : decode cL_law 234 = .ok (.iload_n 3, 1) := by decide +kernel
theorem dL_law_235 : decode cL_law 235 = .ok (.iconst 1, 1) := by decide +kernel
theorem dL_law_236 : decode cL_law 236 = .ok (.iadd, 1) := by decide +kernel
theorem dL_law_237 : decode cL_law 237 = .ok (.iaload, 1) := by decide +kernel
theorem dL_law_238 : decode cL_law 238 = .ok (.aload_n 0, 1) := by decide +kernel
theorem dL_law_239 : decode cL_law 239 = .ok (.iload_n 3, 1) := by decide +kernel
theorem dL_law_240 : decode cL_law 240 = .ok (.iconst 2, 1) := by decide +kernel
theorem dL_law_241 : decode cL_law 241 = .ok (.iadd, 1) := by decide +kernel
theorem dL_law_242 : decode cL_law 242 = .ok (.iaload, 1) := by decide +kernel
theorem dL_law_243 : decode cL_law 243 = .ok (.invokevirtual 33, 3) := by decide +kernel
theorem dL_law_246 : decode cL_law 246 = .ok (.aload_n 2, 1) := by decide +kernel
theorem dL_law_247 : decode cL_law 247 = .ok (.aload_n 0, 1) := by decide +kernel
theorem dL_law_248 : decode cL_law 248 = .ok (.iload_n 3, 1) := by decide +kernel
theorem dL_law_249 : decode cL_law 249 = .ok (.iconst 1, 1) := by decide +kernel
theorem dL_law_250 : decode cL_law 250 = .ok (.iadd, 1) := by decide +kernel
theorem dL_law_251 : decode cL_law 251 = .ok (.iaload, 1) := by decide +kernel
theorem dL_law_252 : decode cL_law 252 = .ok (.aload_n 0, 1) := by decide +kernel
theorem dL_law_253 : decode cL_law 253 = .ok (.iload_n 3, 1) := by decide +kernel
theorem dL_law_254 : decode cL_law 254 = .ok (.iconst 2, 1) := by decide +kernel
theorem dL_law_255 : decode cL_law 255 = .ok (.iadd, 1) := by decide +kernel
theorem dL_law_256 : decode cL_law 256 = .ok (.iaload, 1) := by decide +kernel
theorem dL_law_257 : decode cL_law 257 = .ok (.invokevirtual 37, 3) := by decide +kernel
theorem dL_law_260 : decode cL_law 260 = .ok (.if_icmp .eq 199, 3) := by decide +kernel
theorem dL_law_263 : decode cL_law 263 = .ok (.iconst 0, 1) := by decide +kernel
theorem dL_law_264 : decode cL_law 264 = .ok (.ireturn, 1) := by decide +kernel
theorem dL_law_265 : decode cL_law 265 = .ok (.aload_n 1, 1) := by decide +kernel
theorem dL_law_266 : decode cL_law 266 = .ok (.invokevirtual 38, 3) := by decide +kernel
theorem dL_law_269 : decode cL_law 269 = .ok (.aload_n 2, 1) := by decide +kernel
theorem dL_law_270 : decode cL_law 270 = .ok (.invokevirtual 41, 3) := by decide +kernel
theorem dL_law_273 : decode cL_law 273 = .ok (.if_icmp .eq 186, 3) := by decide +kernel
theorem dL_law_276 : decode cL_law 276 = .ok (.iconst 0, 1) := by decide +kernel
theorem dL_law_277 : decode cL_law 277 = .ok (.ireturn, 1) := by decide +kernel
theorem dL_law_278 : decode cL_law 278 = .ok (.aload_n 1, 1) := by decide +kernel
theorem dL_law_279 : decode cL_law 279 = .ok (.aload_n 0, 1) := by decide +kernel
theorem dL_law_280 : decode cL_law 280 = .ok (.iload_n 3, 1) := by decide +kernel
theorem dL_law_281 : decode cL_law 281 = .ok (.iconst 1, 1) := by decide +kernel
theorem dL_law_282 : decode cL_law 282 = .ok (.iadd, 1) := by decide +kernel
theorem dL_law_283 : decode cL_law 283 = .ok (.iaload, 1) := by decide +kernel
theorem dL_law_284 : decode cL_law 284 = .ok (.invokevirtual 42, 3) := by decide +kernel
theorem dL_law_287 : decode cL_law 287 = .ok (.aload_n 2, 1) := by decide +kernel
theorem dL_law_288 : decode cL_law 288 = .ok (.aload_n 0, 1) := by decide +kernel
theorem dL_law_289 : decode cL_law 289 = .ok (.iload_n 3, 1) := by decide +kernel
theorem dL_law_290 : decode cL_law 290 = .ok (.iconst 1, 1) := by decide +kernel
theorem dL_law_291 : decode cL_law 291 = .ok (.iadd, 1) := by decide +kernel
theorem dL_law_292 : decode cL_law 292 = .ok (.iaload, 1) := by decide +kernel
theorem dL_law_293 : decode cL_law 293 = .ok (.invokevirtual 46, 3) := by decide +kernel
theorem dL_law_296 : decode cL_law 296 = .ok (.if_icmp .eq 163, 3) := by decide +kernel
theorem dL_law_299 : decode cL_law 299 = .ok (.iconst 0, 1) := by decide +kernel
theorem dL_law_300 : decode cL_law 300 = .ok (.ireturn, 1) := by decide +kernel
theorem dL_law_301 : decode cL_law 301 = .ok (.aload_n 1, 1) := by decide +kernel
theorem dL_law_302 : decode cL_law 302 = .ok (.aload_n 0, 1) := by decide +kernel
theorem dL_law_303 : decode cL_law 303 = .ok (.iload_n 3, 1) := by decide +kernel
theorem dL_law_304 : decode cL_law 304 = .ok (.iconst 1, 1) := by decide +kernel
theorem dL_law_305 : decode cL_law 305 = .ok (.iadd, 1) := by decide +kernel
theorem dL_law_306 : decode cL_law 306 = .ok (.iaload, 1) := by decide +kernel
theorem dL_law_307 : decode cL_law 307 = .ok (.invokevirtual 47, 3) := by decide +kernel
theorem dL_law_310 : decode cL_law 310 = .ok (.aload_n 2, 1) := by decide +kernel
theorem dL_law_311 : decode cL_law 311 = .ok (.aload_n 0, 1) := by decide +kernel
theorem dL_law_312 : decode cL_law 312 = .ok (.iload_n 3, 1) := by decide +kernel
theorem dL_law_313 : decode cL_law 313 = .ok (.iconst 1, 1) := by decide +kernel
theorem dL_law_314 : decode cL_law 314 = .ok (.iadd, 1) := by decide +kernel
theorem dL_law_315 : decode cL_law 315 = .ok (.iaload, 1) := by decide +kernel
theorem dL_law_316 : decode cL_law 316 = .ok (.invokevirtual 50, 3) := by decide +kernel
theorem dL_law_319 : decode cL_law 319 = .ok (.if_icmp .eq 140, 3) := by decide +kernel
theorem dL_law_322 : decode cL_law 322 = .ok (.iconst 0, 1) := by decide +kernel
theorem dL_law_323 : decode cL_law 323 = .ok (.ireturn, 1) := by decide +kernel
theorem dL_law_324 : decode cL_law 324 = .ok (.aload_n 1, 1) := by decide +kernel
theorem dL_law_325 : decode cL_law 325 = .ok (.aload_n 0, 1) := by decide +kernel
theorem dL_law_326 : decode cL_law 326 = .ok (.iload_n 3, 1) := by decide +kernel
theorem dL_law_327 : decode cL_law 327 = .ok (.iconst 1, 1) := by decide +kernel
theorem dL_law_328 : decode cL_law 328 = .ok (.iadd, 1) := by decide +kernel
theorem dL_law_329 : decode cL_law 329 = .ok (.iaload, 1) := by decide +kernel
theorem dL_law_330 : decode cL_law 330 = .ok (.aload_n 0, 1) := by decide +kernel
theorem dL_law_331 : decode cL_law 331 = .ok (.iload_n 3, 1) := by decide +kernel
theorem dL_law_332 : decode cL_law 332 = .ok (.iconst 2, 1) := by decide +kernel
theorem dL_law_333 : decode cL_law 333 = .ok (.iadd, 1) := by decide +kernel
theorem dL_law_334 : decode cL_law 334 = .ok (.iaload, 1) := by decide +kernel
theorem dL_law_335 : decode cL_law 335 = .ok (.invokevirtual 51, 3) := by decide +kernel
theorem dL_law_338 : decode cL_law 338 = .ok (.aload_n 2, 1) := by decide +kernel
theorem dL_law_339 : decode cL_law 339 = .ok (.aload_n 0, 1) := by decide +kernel
theorem dL_law_340 : decode cL_law 340 = .ok (.iload_n 3, 1) := by decide +kernel
theorem dL_law_341 : decode cL_law 341 = .ok (.iconst 1, 1) := by decide +kernel
theorem dL_law_342 : decode cL_law 342 = .ok (.iadd, 1) := by decide +kernel
theorem dL_law_343 : decode cL_law 343 = .ok (.iaload, 1) := by decide +kernel
theorem dL_law_344 : decode cL_law 344 = .ok (.aload_n 0, 1) := by decide +kernel
theorem dL_law_345 : decode cL_law 345 = .ok (.iload_n 3, 1) := by decide +kernel
theorem dL_law_346 : decode cL_law 346 = .ok (.iconst 2, 1) := by decide +kernel
theorem dL_law_347 : decode cL_law 347 = .ok (.iadd, 1) := by decide +kernel
theorem dL_law_348 : decode cL_law 348 = .ok (.iaload, 1) := by decide +kernel
theorem dL_law_349 : decode cL_law 349 = .ok (.invokevirtual 54, 3) := by decide +kernel
theorem dL_law_352 : decode cL_law 352 = .ok (.if_icmp .eq 107, 3) := by decide +kernel
theorem dL_law_355 : decode cL_law 355 = .ok (.iconst 0, 1) := by decide +kernel
theorem dL_law_356 : decode cL_law 356 = .ok (.ireturn, 1) := by decide +kernel
theorem dL_law_357 : decode cL_law 357 = .ok (.aload_n 1, 1) := by decide +kernel
theorem dL_law_358 : decode cL_law 358 = .ok (.aload_n 0, 1) := by decide +kernel
theorem dL_law_359 : decode cL_law 359 = .ok (.iload_n 3, 1) := by decide +kernel
theorem dL_law_360 : decode cL_law 360 = .ok (.iconst 1, 1) := by decide +kernel
theorem dL_law_361 : decode cL_law 361 = .ok (.iadd, 1) := by decide +kernel
theorem dL_law_362 : decode cL_law 362 = .ok (.iaload, 1) := by decide +kernel
theorem dL_law_363 : decode cL_law 363 = .ok (.invokevirtual 55, 3) := by decide +kernel
theorem dL_law_366 : decode cL_law 366 = .ok (.aload_n 2, 1) := by decide +kernel
theorem dL_law_367 : decode cL_law 367 = .ok (.aload_n 0, 1) := by decide +kernel
theorem dL_law_368 : decode cL_law 368 = .ok (.iload_n 3, 1) := by decide +kernel
theorem dL_law_369 : decode cL_law 369 = .ok (.iconst 1, 1) := by decide +kernel
theorem dL_law_370 : decode cL_law 370 = .ok (.iadd, 1) := by decide +kernel
theorem dL_law_371 : decode cL_law 371 = .ok (.iaload, 1) := by decide +kernel
theorem dL_law_372 : decode cL_law 372 = .ok (.invokevirtual 58, 3) := by decide +kernel
theorem dL_law_375 : decode cL_law 375 = .ok (.if_icmp .eq 84, 3) := by decide +kernel
theorem dL_law_378 : decode cL_law 378 = .ok (.iconst 0, 1) := by decide +kernel
theorem dL_law_379 : decode cL_law 379 = .ok (.ireturn, 1) := by decide +kernel
theorem dL_law_380 : decode cL_law 380 = .ok (.aload_n 1, 1) := by decide +kernel
theorem dL_law_381 : decode cL_law 381 = .ok (.invokevirtual 59, 3) := by decide +kernel
theorem dL_law_384 : decode cL_law 384 = .ok (.aload_n 2, 1) := by decide +kernel
theorem dL_law_385 : decode cL_law 385 = .ok (.invokevirtual 62, 3) := by decide +kernel
theorem dL_law_388 : decode cL_law 388 = .ok (.if_icmp .eq 71, 3) := by decide +kernel
theorem dL_law_391 : decode cL_law 391 = .ok (.iconst 0, 1) := by decide +kernel
theorem dL_law_392 : decode cL_law 392 = .ok (.ireturn, 1) := by decide +kernel
theorem dL_law_393 : decode cL_law 393 = .ok (.aload_n 1, 1) := by decide +kernel
theorem dL_law_394 : decode cL_law 394 = .ok (.aload_n 0, 1) := by decide +kernel
theorem dL_law_395 : decode cL_law 395 = .ok (.iload_n 3, 1) := by decide +kernel
theorem dL_law_396 : decode cL_law 396 = .ok (.iconst 1, 1) := by decide +kernel
theorem dL_law_397 : decode cL_law 397 = .ok (.iadd, 1) := by decide +kernel
theorem dL_law_398 : decode cL_law 398 = .ok (.iaload, 1) := by decide +kernel
theorem dL_law_399 : decode cL_law 399 = .ok (.aload_n 0, 1) := by decide +kernel
theorem dL_law_400 : decode cL_law 400 = .ok (.iload_n 3, 1) := by decide +kernel
theorem dL_law_401 : decode cL_law 401 = .ok (.iconst 2, 1) := by decide +kernel
theorem dL_law_402 : decode cL_law 402 = .ok (.iadd, 1) := by decide +kernel
theorem dL_law_403 : decode cL_law 403 = .ok (.iaload, 1) := by decide +kernel
theorem dL_law_404 : decode cL_law 404 = .ok (.invokevirtual 63, 3) := by decide +kernel
theorem dL_law_407 : decode cL_law 407 = .ok (.aload_n 2, 1) := by decide +kernel
theorem dL_law_408 : decode cL_law 408 = .ok (.aload_n 0, 1) := by decide +kernel
theorem dL_law_409 : decode cL_law 409 = .ok (.iload_n 3, 1) := by decide +kernel
theorem dL_law_410 : decode cL_law 410 = .ok (.iconst 1, 1) := by decide +kernel
theorem dL_law_411 : decode cL_law 411 = .ok (.iadd, 1) := by decide +kernel
theorem dL_law_412 : decode cL_law 412 = .ok (.iaload, 1) := by decide +kernel
theorem dL_law_413 : decode cL_law 413 = .ok (.aload_n 0, 1) := by decide +kernel
theorem dL_law_414 : decode cL_law 414 = .ok (.iload_n 3, 1) := by decide +kernel
theorem dL_law_415 : decode cL_law 415 = .ok (.iconst 2, 1) := by decide +kernel
theorem dL_law_416 : decode cL_law 416 = .ok (.iadd, 1) := by decide +kernel
theorem dL_law_417 : decode cL_law 417 = .ok (.iaload, 1) := by decide +kernel
theorem dL_law_418 : decode cL_law 418 = .ok (.invokevirtual 66, 3) := by decide +kernel
theorem dL_law_421 : decode cL_law 421 = .ok (.if_icmp .eq 38, 3) := by decide +kernel
theorem dL_law_424 : decode cL_law 424 = .ok (.iconst 0, 1) := by decide +kernel
theorem dL_law_425 : decode cL_law 425 = .ok (.ireturn, 1) := by decide +kernel
theorem dL_law_426 : decode cL_law 426 = .ok (.aload_n 1, 1) := by decide +kernel
theorem dL_law_427 : decode cL_law 427 = .ok (.aload_n 0, 1) := by decide +kernel
theorem dL_law_428 : decode cL_law 428 = .ok (.iload_n 3, 1) := by decide +kernel
theorem dL_law_429 : decode cL_law 429 = .ok (.iconst 1, 1) := by decide +kernel
theorem dL_law_430 : decode cL_law 430 = .ok (.iadd, 1) := by decide +kernel
theorem dL_law_431 : decode cL_law 431 = .ok (.iaload, 1) := by decide +kernel
theorem dL_law_432 : decode cL_law 432 = .ok (.aload_n 0, 1) := by decide +kernel
theorem dL_law_433 : decode cL_law 433 = .ok (.iload_n 3, 1) := by decide +kernel
theorem dL_law_434 : decode cL_law 434 = .ok (.iconst 2, 1) := by decide +kernel
theorem dL_law_435 : decode cL_law 435 = .ok (.iadd, 1) := by decide +kernel
theorem dL_law_436 : decode cL_law 436 = .ok (.iaload, 1) := by decide +kernel
theorem dL_law_437 : decode cL_law 437 = .ok (.invokevirtual 67, 3) := by decide +kernel
theorem dL_law_440 : decode cL_law 440 = .ok (.aload_n 2, 1) := by decide +kernel
theorem dL_law_441 : decode cL_law 441 = .ok (.aload_n 0, 1) := by decide +kernel
theorem dL_law_442 : decode cL_law 442 = .ok (.iload_n 3, 1) := by decide +kernel
theorem dL_law_443 : decode cL_law 443 = .ok (.iconst 1, 1) := by decide +kernel
theorem dL_law_444 : decode cL_law 444 = .ok (.iadd, 1) := by decide +kernel
theorem dL_law_445 : decode cL_law 445 = .ok (.iaload, 1) := by decide +kernel
theorem dL_law_446 : decode cL_law 446 = .ok (.aload_n 0, 1) := by decide +kernel
theorem dL_law_447 : decode cL_law 447 = .ok (.iload_n 3, 1) := by decide +kernel
theorem dL_law_448 : decode cL_law 448 = .ok (.iconst 2, 1) := by decide +kernel
theorem dL_law_449 : decode cL_law 449 = .ok (.iadd, 1) := by decide +kernel
theorem dL_law_450 : decode cL_law 450 = .ok (.iaload, 1) := by decide +kernel
theorem dL_law_451 : decode cL_law 451 = .ok (.invokevirtual 70, 3) := by decide +kernel
theorem dL_law_454 : decode cL_law 454 = .ok (.if_icmp .eq 5, 3) := by decide +kernel
theorem dL_law_457 : decode cL_law 457 = .ok (.iconst 0, 1) := by decide +kernel
theorem dL_law_458 : decode cL_law 458 = .ok (.ireturn, 1) := by decide +kernel
theorem dL_law_459 : decode cL_law 459 = .ok (.iinc 3 5, 3) := by decide +kernel
theorem dL_law_462 : decode cL_law 462 = .ok (.goto (-444), 3) := by decide +kernel
theorem dL_law_465 : decode cL_law 465 = .ok (.iconst 1, 1) := by decide +kernel
theorem dL_law_466 : decode cL_law 466 = .ok (.ireturn, 1) := by decide +kernel
end
section
/-! rows of the machine over whole numbers -/
set_option maxRecDepth 100000
def iI (z : Int) : Int32 := Int32.ofInt z
theorem iI_toInt {z : Int} (h : -2147483648 ≤ z ∧ z ≤ 2147483647) : (iI z).toInt = z := Int32.toInt_ofInt_of_le (by omega) (by omega)
theorem iI_add (a b : Int) : iI a + iI b = iI (a + b) := (Int32.ofInt_add a b).symm
theorem iI_sub (a b : Int) : iI a - iI b = iI (a - b) := (Int32.ofInt_sub a b).symm
theorem iI_mul (a b : Int) : iI a * iI b = iI (a * b) := (Int32.ofInt_mul a b).symm
theorem iI_nI (n : Nat) : iI (n : Int) = nI n := Int32.ofInt_eq_ofNat
theorem iI_of (x : Int32) : x = iI x.toInt := (Int32.ofInt_toInt x).symm
theorem iI_rng (x : Int32) : -2147483648 ≤ x.toInt ∧ x.toInt ≤ 2147483647 := ⟨Int32.le_toInt x, Int32.toInt_le x⟩
theorem iI_lt {a b : Int} (ha : -2147483648 ≤ a ∧ a ≤ 2147483647) (hb : -2147483648 ≤ b ∧ b ≤ 2147483647) : iI a < iI b ↔ a < b := by rw [Int32.lt_iff_toInt_lt, iI_toInt ha, iI_toInt hb]
theorem iI_le {a b : Int} (ha : -2147483648 ≤ a ∧ a ≤ 2147483647) (hb : -2147483648 ≤ b ∧ b ≤ 2147483647) : iI a ≤ iI b ↔ a ≤ b := by rw [Int32.le_iff_toInt_le, iI_toInt ha, iI_toInt hb]
theorem iI_eq {a b : Int} (ha : -2147483648 ≤ a ∧ a ≤ 2147483647) (hb : -2147483648 ≤ b ∧ b ≤ 2147483647) : iI a = iI b ↔ a = b := by rw [← Int32.toInt_inj, iI_toInt ha, iI_toInt hb]
theorem iI_0 : (0 : Int32) = iI 0 := rfl
theorem iI_cl {j : Nat} (h : j < 2147483648) : (iI (j : Int)).toNatClampNeg = j := by rw [iI_nI]; exact nI_clamp h
theorem iI_in {j n : Nat} (h : j < n) (hn : n < 2147483648) : vp_in (iI (j : Int)) n := by rw [iI_nI]; exact vp_in_nI h hn
theorem iI_short {v : Int} (h : -32768 ≤ v ∧ v ≤ 32767) : (iI v).toInt16.toInt32 = iI v := by
  show (Int32.ofInt v).toInt16.toInt32 = _
  rw [Int32.toInt16_ofInt]
  exact Int16.toInt32_ofInt (Int.le_trans (by decide) h.1) (Int.le_trans h.2 (by decide))
theorem iI_byte {v : Int} (h : -128 ≤ v ∧ v ≤ 127) : (iI v).toInt8.toInt32 = iI v := by
  show (Int32.ofInt v).toInt8.toInt32 = _
  rw [Int32.toInt8_ofInt]
  exact Int8.toInt32_ofInt (Int.le_trans (by decide) h.1) (Int.le_trans h.2 (by decide))
theorem iI_div {a d : Nat} (ha : a < 2147483648) (h0 : 0 < d) (hd : d < 2147483648) : iI (a : Int) / iI (d : Int) = iI ((a / d : Nat) : Int) := by rw [iI_nI, iI_nI, iI_nI]; exact pk_div ha h0 hd
theorem iI_rem {a d : Nat} (ha : a < 2147483648) (h0 : 0 < d) (hd : d < 2147483648) : iI (a : Int) - iI (a : Int) / iI (d : Int) * iI (d : Int) = iI ((a % d : Nat) : Int) := by rw [iI_nI, iI_nI, iI_nI]; exact pk_rem ha h0 hd
theorem sh_l : ∀ n, n < 32 → ((nI n &&& 31).toBitVec.smod 32).toNat = n := by decide +kernel
theorem iI_shr {M j : Nat} (hM : M < 2147483648) (hj : j < 32) : iI (M : Int) >>> (iI (j : Int) &&& 31) = iI ((M / 2 ^ j : Nat) : Int) := by
  rw [iI_nI, iI_nI, iI_nI]
  exact pk_shrN hM _ j (sh_l j hj)
theorem iI_shl {j : Nat} (hj : j < 31) : iI 1 <<< (iI (j : Int) &&& 31) = iI ((2 ^ j : Nat) : Int) := by
  rw [iI_nI, iI_nI, show iI 1 = nI 1 from rfl]
  have h := pk_shlN (n := 1) (nI j &&& 31) j (sh_l j (by omega)) (by
    have := Nat.pow_lt_pow_right (show 1 < 2 by decide) (show j < 32 by omega)
    omega)
  rw [h, Nat.one_mul]
theorem iI_half {z : Int} (h : 0 ≤ z ∧ z ≤ 2147483647) : iI z >>> (iI 1 &&& 31) = iI (z / 2) := by
  obtain ⟨n, rfl⟩ : ∃ n : Nat, z = (n : Int) := ⟨z.toNat, by omega⟩
  have := iI_shr (M := n) (j := 1) (by omega) (by omega)
  rw [show ((1 : Nat) : Int) = 1 from rfl] at this
  rw [this]
  congr 1
theorem iI_and (a b : Nat) : iI (a : Int) &&& iI (b : Int) = iI ((a &&& b : Nat) : Int) := by
  rw [iI_nI, iI_nI, iI_nI]
  apply Int32.toBitVec_inj.1
  show BitVec.ofNat 32 a &&& BitVec.ofNat 32 b = BitVec.ofNat 32 (a &&& b)
  apply BitVec.eq_of_getLsbD_eq
  intro i hi
  simp [hi]
theorem iI_or (a b : Nat) : iI (a : Int) ||| iI (b : Int) = iI ((a ||| b : Nat) : Int) := by
  rw [iI_nI, iI_nI, iI_nI]
  apply Int32.toBitVec_inj.1
  show BitVec.ofNat 32 a ||| BitVec.ofNat 32 b = BitVec.ofNat 32 (a ||| b)
  apply BitVec.eq_of_getLsbD_eq
  intro i hi
  simp [hi]
theorem iI_andnot (a b : Nat) : iI (a : Int) &&& (iI (b : Int) ^^^ iI (-1)) = iI ((sd a b : Nat) : Int) := by
  rw [iI_nI, iI_nI, iI_nI]
  apply Int32.toBitVec_inj.1
  show BitVec.ofNat 32 a &&& (BitVec.ofNat 32 b ^^^ BitVec.allOnes 32) = BitVec.ofNat 32 (sd a b)
  apply BitVec.eq_of_getLsbD_eq
  intro i hi
  rw [BitVec.getLsbD_and, BitVec.getLsbD_xor, BitVec.getLsbD_allOnes, BitVec.getLsbD_ofNat, BitVec.getLsbD_ofNat, BitVec.getLsbD_ofNat, sd_bit]
  cases a.testBit i <;> cases b.testBit i <;> simp [hi]
/-- a bit of a mask, as the machine asks for it -/
def bz (M j : Nat) : Int := ((M / 2 ^ j &&& 1 : Nat) : Int)
theorem bz_def (M j : Nat) : bz M j = if M.testBit j = true then 1 else 0 := by
  unfold bz
  rw [Nat.and_one_is_mod, Nat.testBit_eq_decide_div_mod_eq]
  by_cases h : M / 2 ^ j % 2 = 1
  · simp [h]
  · have : M / 2 ^ j % 2 = 0 := by omega
    simp [this]
theorem bz_0 {M j : Nat} : bz M j = 0 ↔ M.testBit j = false := by
  rw [bz_def]
  cases M.testBit j <;> simp
theorem bz_1 {M j : Nat} : bz M j = 1 ↔ M.testBit j = true := by
  rw [bz_def]
  cases M.testBit j <;> simp
theorem bz_r (M j : Nat) : 0 ≤ bz M j ∧ bz M j ≤ 1 := by
  rw [bz_def]
  split <;> omega
section ROWS
variable {p : Program} {l : Launch} {e : Env} {R : Room} {s : State} {m : MethodId} {args : Array Value} {below : List Frame} {meth : Method} {c : Code} {H : Heap} {locs : List Loc} {cells slots : Nat} {Q : State → Prop}
variable {cc : ByteArray} {pc nL : Nat} {ls : Array Slot} {rest : List Value} {own : String}

theorem zi_iconst (S : CallFix p m c cc nL s args lw_all own) {n : Int} (hd : decode cc pc = .ok (.iconst n, 1)) (k : W p l e R s m args below meth c H locs cells slots Q (F0 m (pc + 1) ls (.int (iI n) :: rest))) : W p l e R s m args below meth c H locs cells slots Q (F0 m (pc) ls (rest)) := lv_iconst S.1 S.2.1 hd rfl k
theorem zi_bipush (S : CallFix p m c cc nL s args lw_all own) {n : Int} (hd : decode cc pc = .ok (.bipush n, 2)) (hv : (Int8.ofInt n).toInt32 = iI n) (k : W p l e R s m args below meth c H locs cells slots Q (F0 m (pc + 2) ls (.int (iI n) :: rest))) : W p l e R s m args below meth c H locs cells slots Q (F0 m (pc) ls (rest)) := lv_bipush S.1 S.2.1 hd hv k
theorem zi_sipush (S : CallFix p m c cc nL s args lw_all own) {n : Int} (hd : decode cc pc = .ok (.sipush n, 3)) (hv : (Int16.ofInt n).toInt32 = iI n) (k : W p l e R s m args below meth c H locs cells slots Q (F0 m (pc + 3) ls (.int (iI n) :: rest))) : W p l e R s m args below meth c H locs cells slots Q (F0 m (pc) ls (rest)) := lv_sipush S.1 S.2.1 hd hv k
theorem zi_iadd (S : CallFix p m c cc nL s args lw_all own) {x y : Int} (hd : decode cc pc = .ok (.iadd, 1)) (k : W p l e R s m args below meth c H locs cells slots Q (F0 m (pc + 1) ls (.int (iI (x + y)) :: rest))) : W p l e R s m args below meth c H locs cells slots Q (F0 m (pc) ls (.int (iI y) :: .int (iI x) :: rest)) := lv_iadd S.1 S.2.1 hd (by rw [iI_add]; exact k)
theorem zi_isub (S : CallFix p m c cc nL s args lw_all own) {x y : Int} (hd : decode cc pc = .ok (.isub, 1)) (k : W p l e R s m args below meth c H locs cells slots Q (F0 m (pc + 1) ls (.int (iI (x - y)) :: rest))) : W p l e R s m args below meth c H locs cells slots Q (F0 m (pc) ls (.int (iI y) :: .int (iI x) :: rest)) := lv_isub S.1 S.2.1 hd (by rw [iI_sub]; exact k)
theorem zi_imul (S : CallFix p m c cc nL s args lw_all own) {x y : Int} (hd : decode cc pc = .ok (.imul, 1)) (k : W p l e R s m args below meth c H locs cells slots Q (F0 m (pc + 1) ls (.int (iI (x * y)) :: rest))) : W p l e R s m args below meth c H locs cells slots Q (F0 m (pc) ls (.int (iI y) :: .int (iI x) :: rest)) := lv_imul S.1 S.2.1 hd (by rw [iI_mul]; exact k)
theorem zi_idiv (S : CallFix p m c cc nL s args lw_all own) {a d : Nat} (ha : a < 2147483648) (h0 : 0 < d) (hdd : d < 2147483648) (hd : decode cc pc = .ok (.idiv, 1)) (k : W p l e R s m args below meth c H locs cells slots Q (F0 m (pc + 1) ls (.int (iI ((a / d : Nat) : Int)) :: rest))) : W p l e R s m args below meth c H locs cells slots Q (F0 m (pc) ls (.int (iI (d : Int)) :: .int (iI (a : Int)) :: rest)) := lv_idiv S.1 S.2.1 hd (by rw [iI_0, iI_eq (by omega) (by omega)]; omega) (by rw [iI_div ha h0 hdd]; exact k)
theorem zi_irem (S : CallFix p m c cc nL s args lw_all own) {a d : Nat} (ha : a < 2147483648) (h0 : 0 < d) (hdd : d < 2147483648) (hd : decode cc pc = .ok (.irem, 1)) (k : W p l e R s m args below meth c H locs cells slots Q (F0 m (pc + 1) ls (.int (iI ((a % d : Nat) : Int)) :: rest))) : W p l e R s m args below meth c H locs cells slots Q (F0 m (pc) ls (.int (iI (d : Int)) :: .int (iI (a : Int)) :: rest)) := lv_irem S.1 S.2.1 hd (by rw [iI_0, iI_eq (by omega) (by omega)]; omega) (by rw [iI_rem ha h0 hdd]; exact k)
theorem zi_shl1 (S : CallFix p m c cc nL s args lw_all own) (j : Nat) {z : Int} (hz : z = (j : Int)) (hj : j < 31) (hd : decode cc pc = .ok (.ishl, 1)) (k : W p l e R s m args below meth c H locs cells slots Q (F0 m (pc + 1) ls (.int (iI ((2 ^ j : Nat) : Int)) :: rest))) : W p l e R s m args below meth c H locs cells slots Q (F0 m (pc) ls (.int (iI z) :: .int (iI 1) :: rest)) := by
  subst hz
  exact lv_ishl S.1 S.2.1 hd (by rw [iI_shl hj]; exact k)
theorem zi_half (S : CallFix p m c cc nL s args lw_all own) {z : Int} (hz : 0 ≤ z ∧ z ≤ 2147483647) (hd : decode cc pc = .ok (.ishr, 1)) (k : W p l e R s m args below meth c H locs cells slots Q (F0 m (pc + 1) ls (.int (iI (z / 2)) :: rest))) : W p l e R s m args below meth c H locs cells slots Q (F0 m (pc) ls (.int (iI 1) :: .int (iI z) :: rest)) := lv_ishr S.1 S.2.1 hd (by rw [iI_half hz]; exact k)
theorem zi_bit (S : CallFix p m c cc nL s args lw_all own) (M j : Nat) {x z : Int} (hx : x = (M : Int)) (hz : z = (j : Int)) (hM : M < 2147483648) (hj : j < 32) (d1 : decode cc pc = .ok (.ishr, 1)) (d2 : decode cc (pc + 1) = .ok (.iconst 1, 1)) (d3 : decode cc (pc + 1 + 1) = .ok (.iand, 1)) (k : W p l e R s m args below meth c H locs cells slots Q (F0 m (pc + 1 + 1 + 1) ls (.int (iI (bz M j)) :: rest))) : W p l e R s m args below meth c H locs cells slots Q (F0 m (pc) ls (.int (iI z) :: .int (iI x) :: rest)) := by
  subst hx; subst hz
  refine lv_ishr S.1 S.2.1 d1 ?_
  rw [iI_shr hM hj]
  refine lv_iconst (v := iI ((1 : Nat) : Int)) S.1 S.2.1 d2 rfl ?_
  refine lv_iand S.1 S.2.1 d3 ?_
  rw [iI_and]
  exact k
theorem zi_ior (S : CallFix p m c cc nL s args lw_all own) (a b : Nat) {x y : Int} (hx : x = (a : Int)) (hy : y = (b : Int)) (hd : decode cc pc = .ok (.ior, 1)) (k : W p l e R s m args below meth c H locs cells slots Q (F0 m (pc + 1) ls (.int (iI ((a ||| b : Nat) : Int)) :: rest))) : W p l e R s m args below meth c H locs cells slots Q (F0 m (pc) ls (.int (iI y) :: .int (iI x) :: rest)) := by
  subst hx; subst hy
  exact lv_ior S.1 S.2.1 hd (by rw [iI_or]; exact k)
theorem zi_andnot (S : CallFix p m c cc nL s args lw_all own) (a b : Nat) {x y : Int} (hx : x = (a : Int)) (hy : y = (b : Int)) (d1 : decode cc pc = .ok (.iconst (-1), 1)) (d2 : decode cc (pc + 1) = .ok (.ixor, 1)) (d3 : decode cc (pc + 1 + 1) = .ok (.iand, 1)) (k : W p l e R s m args below meth c H locs cells slots Q (F0 m (pc + 1 + 1 + 1) ls (.int (iI ((sd a b : Nat) : Int)) :: rest))) : W p l e R s m args below meth c H locs cells slots Q (F0 m (pc) ls (.int (iI y) :: .int (iI x) :: rest)) := by
  subst hx; subst hy
  refine lv_iconst (v := iI (-1)) S.1 S.2.1 d1 rfl ?_
  refine lv_ixor S.1 S.2.1 d2 ?_
  refine lv_iand S.1 S.2.1 d3 ?_
  rw [iI_andnot]
  exact k
theorem zi_i2s (S : CallFix p m c cc nL s args lw_all own) {v : Int} (hv : -32768 ≤ v ∧ v ≤ 32767) (hd : decode cc pc = .ok (.i2s, 1)) (k : W p l e R s m args below meth c H locs cells slots Q (F0 m (pc + 1) ls (.int (iI v) :: rest))) : W p l e R s m args below meth c H locs cells slots Q (F0 m (pc) ls (.int (iI v) :: rest)) := lv_i2s S.1 S.2.1 hd (iI_short hv) k
theorem zi_i2b (S : CallFix p m c cc nL s args lw_all own) {v : Int} (hv : -128 ≤ v ∧ v ≤ 127) (hd : decode cc pc = .ok (.i2b, 1)) (k : W p l e R s m args below meth c H locs cells slots Q (F0 m (pc + 1) ls (.int (iI v) :: rest))) : W p l e R s m args below meth c H locs cells slots Q (F0 m (pc) ls (.int (iI v) :: rest)) := lv_i2b S.1 S.2.1 hd (iI_byte hv) k
theorem zi_icmp_eq (S : CallFix p m c cc nL s args lw_all own) {x y : Int} {off : Int} {tgt : Nat} (hd : decode cc pc = .ok (.if_icmp .eq off, 3)) (ht : (pc : Int) + off = (tgt : Int)) (hx : -2147483648 ≤ x ∧ x ≤ 2147483647) (hy : -2147483648 ≤ y ∧ y ≤ 2147483647) (kt : x = y → W p l e R s m args below meth c H locs cells slots Q (F0 m (tgt) ls (rest))) (kf : ¬ x = y → W p l e R s m args below meth c H locs cells slots Q (F0 m (pc + 3) ls (rest))) : W p l e R s m args below meth c H locs cells slots Q (F0 m (pc) ls (.int (iI y) :: .int (iI x) :: rest)) := lv_icmp_eq S.1 S.2.1 hd ht (fun q => kt (by have q := q; rw [iI_eq hx hy] at q; omega)) (fun q => kf (by have q := q; rw [iI_eq hx hy] at q; omega))
theorem zi_if_eq (S : CallFix p m c cc nL s args lw_all own) {x : Int} {off : Int} {tgt : Nat} (hd : decode cc pc = .ok (.ifCond .eq off, 3)) (ht : (pc : Int) + off = (tgt : Int)) (hx : -2147483648 ≤ x ∧ x ≤ 2147483647) (kt : x = 0 → W p l e R s m args below meth c H locs cells slots Q (F0 m (tgt) ls (rest))) (kf : ¬ x = 0 → W p l e R s m args below meth c H locs cells slots Q (F0 m (pc + 3) ls (rest))) : W p l e R s m args below meth c H locs cells slots Q (F0 m (pc) ls (.int (iI x) :: rest)) := lv_if_eq S.1 S.2.1 hd ht (fun q => kt (by have q := q; rw [iI_0, iI_eq hx (show (-2147483648 : Int) ≤ 0 ∧ (0 : Int) ≤ 2147483647 by omega)] at q; omega)) (fun q => kf (by have q := q; rw [iI_0, iI_eq hx (show (-2147483648 : Int) ≤ 0 ∧ (0 : Int) ≤ 2147483647 by omega)] at q; omega))
theorem zi_icmp_ne (S : CallFix p m c cc nL s args lw_all own) {x y : Int} {off : Int} {tgt : Nat} (hd : decode cc pc = .ok (.if_icmp .ne off, 3)) (ht : (pc : Int) + off = (tgt : Int)) (hx : -2147483648 ≤ x ∧ x ≤ 2147483647) (hy : -2147483648 ≤ y ∧ y ≤ 2147483647) (kt : ¬ x = y → W p l e R s m args below meth c H locs cells slots Q (F0 m (tgt) ls (rest))) (kf : x = y → W p l e R s m args below meth c H locs cells slots Q (F0 m (pc + 3) ls (rest))) : W p l e R s m args below meth c H locs cells slots Q (F0 m (pc) ls (.int (iI y) :: .int (iI x) :: rest)) := lv_icmp_ne S.1 S.2.1 hd ht (fun q => kt (by have q := q; rw [iI_eq hx hy] at q; omega)) (fun q => kf (by have q := q; rw [iI_eq hx hy] at q; omega))
theorem zi_if_ne (S : CallFix p m c cc nL s args lw_all own) {x : Int} {off : Int} {tgt : Nat} (hd : decode cc pc = .ok (.ifCond .ne off, 3)) (ht : (pc : Int) + off = (tgt : Int)) (hx : -2147483648 ≤ x ∧ x ≤ 2147483647) (kt : ¬ x = 0 → W p l e R s m args below meth c H locs cells slots Q (F0 m (tgt) ls (rest))) (kf : x = 0 → W p l e R s m args below meth c H locs cells slots Q (F0 m (pc + 3) ls (rest))) : W p l e R s m args below meth c H locs cells slots Q (F0 m (pc) ls (.int (iI x) :: rest)) := lv_if_ne S.1 S.2.1 hd ht (fun q => kt (by have q := q; rw [iI_0, iI_eq hx (show (-2147483648 : Int) ≤ 0 ∧ (0 : Int) ≤ 2147483647 by omega)] at q; omega)) (fun q => kf (by have q := q; rw [iI_0, iI_eq hx (show (-2147483648 : Int) ≤ 0 ∧ (0 : Int) ≤ 2147483647 by omega)] at q; omega))
theorem zi_icmp_lt (S : CallFix p m c cc nL s args lw_all own) {x y : Int} {off : Int} {tgt : Nat} (hd : decode cc pc = .ok (.if_icmp .lt off, 3)) (ht : (pc : Int) + off = (tgt : Int)) (hx : -2147483648 ≤ x ∧ x ≤ 2147483647) (hy : -2147483648 ≤ y ∧ y ≤ 2147483647) (kt : x < y → W p l e R s m args below meth c H locs cells slots Q (F0 m (tgt) ls (rest))) (kf : y ≤ x → W p l e R s m args below meth c H locs cells slots Q (F0 m (pc + 3) ls (rest))) : W p l e R s m args below meth c H locs cells slots Q (F0 m (pc) ls (.int (iI y) :: .int (iI x) :: rest)) := lv_icmp_lt S.1 S.2.1 hd ht (fun q => kt (by have q := q; rw [iI_lt hx hy] at q; omega)) (fun q => kf (by have q := q; rw [iI_lt hx hy] at q; omega))
theorem zi_if_lt (S : CallFix p m c cc nL s args lw_all own) {x : Int} {off : Int} {tgt : Nat} (hd : decode cc pc = .ok (.ifCond .lt off, 3)) (ht : (pc : Int) + off = (tgt : Int)) (hx : -2147483648 ≤ x ∧ x ≤ 2147483647) (kt : x < 0 → W p l e R s m args below meth c H locs cells slots Q (F0 m (tgt) ls (rest))) (kf : 0 ≤ x → W p l e R s m args below meth c H locs cells slots Q (F0 m (pc + 3) ls (rest))) : W p l e R s m args below meth c H locs cells slots Q (F0 m (pc) ls (.int (iI x) :: rest)) := lv_if_lt S.1 S.2.1 hd ht (fun q => kt (by have q := q; rw [iI_0, iI_lt hx (show (-2147483648 : Int) ≤ 0 ∧ (0 : Int) ≤ 2147483647 by omega)] at q; omega)) (fun q => kf (by have q := q; rw [iI_0, iI_lt hx (show (-2147483648 : Int) ≤ 0 ∧ (0 : Int) ≤ 2147483647 by omega)] at q; omega))
theorem zi_icmp_ge (S : CallFix p m c cc nL s args lw_all own) {x y : Int} {off : Int} {tgt : Nat} (hd : decode cc pc = .ok (.if_icmp .ge off, 3)) (ht : (pc : Int) + off = (tgt : Int)) (hx : -2147483648 ≤ x ∧ x ≤ 2147483647) (hy : -2147483648 ≤ y ∧ y ≤ 2147483647) (kt : y ≤ x → W p l e R s m args below meth c H locs cells slots Q (F0 m (tgt) ls (rest))) (kf : x < y → W p l e R s m args below meth c H locs cells slots Q (F0 m (pc + 3) ls (rest))) : W p l e R s m args below meth c H locs cells slots Q (F0 m (pc) ls (.int (iI y) :: .int (iI x) :: rest)) := lv_icmp_ge S.1 S.2.1 hd ht (fun q => kt (by have q := q; rw [iI_le hy hx] at q; omega)) (fun q => kf (by have q := q; rw [iI_le hy hx] at q; omega))
theorem zi_if_ge (S : CallFix p m c cc nL s args lw_all own) {x : Int} {off : Int} {tgt : Nat} (hd : decode cc pc = .ok (.ifCond .ge off, 3)) (ht : (pc : Int) + off = (tgt : Int)) (hx : -2147483648 ≤ x ∧ x ≤ 2147483647) (kt : 0 ≤ x → W p l e R s m args below meth c H locs cells slots Q (F0 m (tgt) ls (rest))) (kf : x < 0 → W p l e R s m args below meth c H locs cells slots Q (F0 m (pc + 3) ls (rest))) : W p l e R s m args below meth c H locs cells slots Q (F0 m (pc) ls (.int (iI x) :: rest)) := lv_if_ge S.1 S.2.1 hd ht (fun q => kt (by have q := q; rw [iI_0, iI_le (show (-2147483648 : Int) ≤ 0 ∧ (0 : Int) ≤ 2147483647 by omega) hx] at q; omega)) (fun q => kf (by have q := q; rw [iI_0, iI_le (show (-2147483648 : Int) ≤ 0 ∧ (0 : Int) ≤ 2147483647 by omega) hx] at q; omega))
theorem zi_icmp_gt (S : CallFix p m c cc nL s args lw_all own) {x y : Int} {off : Int} {tgt : Nat} (hd : decode cc pc = .ok (.if_icmp .gt off, 3)) (ht : (pc : Int) + off = (tgt : Int)) (hx : -2147483648 ≤ x ∧ x ≤ 2147483647) (hy : -2147483648 ≤ y ∧ y ≤ 2147483647) (kt : y < x → W p l e R s m args below meth c H locs cells slots Q (F0 m (tgt) ls (rest))) (kf : x ≤ y → W p l e R s m args below meth c H locs cells slots Q (F0 m (pc + 3) ls (rest))) : W p l e R s m args below meth c H locs cells slots Q (F0 m (pc) ls (.int (iI y) :: .int (iI x) :: rest)) := lv_icmp_gt S.1 S.2.1 hd ht (fun q => kt (by have q := q; rw [iI_lt hy hx] at q; omega)) (fun q => kf (by have q := q; rw [iI_lt hy hx] at q; omega))
theorem zi_if_gt (S : CallFix p m c cc nL s args lw_all own) {x : Int} {off : Int} {tgt : Nat} (hd : decode cc pc = .ok (.ifCond .gt off, 3)) (ht : (pc : Int) + off = (tgt : Int)) (hx : -2147483648 ≤ x ∧ x ≤ 2147483647) (kt : 0 < x → W p l e R s m args below meth c H locs cells slots Q (F0 m (tgt) ls (rest))) (kf : x ≤ 0 → W p l e R s m args below meth c H locs cells slots Q (F0 m (pc + 3) ls (rest))) : W p l e R s m args below meth c H locs cells slots Q (F0 m (pc) ls (.int (iI x) :: rest)) := lv_if_gt S.1 S.2.1 hd ht (fun q => kt (by have q := q; rw [iI_0, iI_lt (show (-2147483648 : Int) ≤ 0 ∧ (0 : Int) ≤ 2147483647 by omega) hx] at q; omega)) (fun q => kf (by have q := q; rw [iI_0, iI_lt (show (-2147483648 : Int) ≤ 0 ∧ (0 : Int) ≤ 2147483647 by omega) hx] at q; omega))
theorem zi_icmp_le (S : CallFix p m c cc nL s args lw_all own) {x y : Int} {off : Int} {tgt : Nat} (hd : decode cc pc = .ok (.if_icmp .le off, 3)) (ht : (pc : Int) + off = (tgt : Int)) (hx : -2147483648 ≤ x ∧ x ≤ 2147483647) (hy : -2147483648 ≤ y ∧ y ≤ 2147483647) (kt : x ≤ y → W p l e R s m args below meth c H locs cells slots Q (F0 m (tgt) ls (rest))) (kf : y < x → W p l e R s m args below meth c H locs cells slots Q (F0 m (pc + 3) ls (rest))) : W p l e R s m args below meth c H locs cells slots Q (F0 m (pc) ls (.int (iI y) :: .int (iI x) :: rest)) := lv_icmp_le S.1 S.2.1 hd ht (fun q => kt (by have q := q; rw [iI_le hx hy] at q; omega)) (fun q => kf (by have q := q; rw [iI_le hx hy] at q; omega))
theorem zi_if_le (S : CallFix p m c cc nL s args lw_all own) {x : Int} {off : Int} {tgt : Nat} (hd : decode cc pc = .ok (.ifCond .le off, 3)) (ht : (pc : Int) + off = (tgt : Int)) (hx : -2147483648 ≤ x ∧ x ≤ 2147483647) (kt : x ≤ 0 → W p l e R s m args below meth c H locs cells slots Q (F0 m (tgt) ls (rest))) (kf : 0 < x → W p l e R s m args below meth c H locs cells slots Q (F0 m (pc + 3) ls (rest))) : W p l e R s m args below meth c H locs cells slots Q (F0 m (pc) ls (.int (iI x) :: rest)) := lv_if_le S.1 S.2.1 hd ht (fun q => kt (by have q := q; rw [iI_0, iI_le hx (show (-2147483648 : Int) ≤ 0 ∧ (0 : Int) ≤ 2147483647 by omega)] at q; omega)) (fun q => kf (by have q := q; rw [iI_0, iI_le hx (show (-2147483648 : Int) ≤ 0 ∧ (0 : Int) ≤ 2147483647 by omega)] at q; omega))
theorem zi_ldc (S : CallFix p m c cc nL s args lw_all own) {v : Int} {index : Nat} (h : Cond.constant own index (iI v) ∈ lw_all) (hd : decode cc pc = .ok (.ldc index, 2)) (k : W p l e R s m args below meth c H locs cells slots Q (F0 m (pc + 2) ls (.int (iI v) :: rest))) : W p l e R s m args below meth c H locs cells slots Q (F0 m (pc) ls (rest)) := lv_ldc S.1 S.2.1 S.2.2.2.1 (S.2.2.2.2 _ h) hd k
/-- a loop: by a number that falls -/
theorem W_loop (I : Nat → Heap → List Loc → Array Slot → Prop) (pc : Nat) (step : ∀ n H locs ls, I n H locs ls → (∀ n' H' locs' ls', n' < n → I n' H' locs' ls' → W p l e R s m args below meth c H' locs' cells slots Q (F0 m pc ls' [])) → W p l e R s m args below meth c H locs cells slots Q (F0 m pc ls [])) : ∀ n H locs ls, I n H locs ls → W p l e R s m args below meth c H locs cells slots Q (F0 m pc ls []) := by
  intro n
  induction n using Nat.strongRecOn with
  | ind n ih =>
    intro H locs ls h
    exact step n H locs ls h (fun n' H' locs' ls' hn h' => ih n' hn H' locs' ls' h')
/-- where two ways meet, with a number on the stack -/
theorem W_meet (Pr : Int → Prop) (pc : Nat) (h : ∀ v, Pr v → W p l e R s m args below meth c H locs cells slots Q (F0 m pc ls (.int (iI v) :: rest))) {g : JFrame} (k : (∀ v, Pr v → W p l e R s m args below meth c H locs cells slots Q (F0 m pc ls (.int (iI v) :: rest))) → W p l e R s m args below meth c H locs cells slots Q g) : W p l e R s m args below meth c H locs cells slots Q g := k h
/-- another name for the number on the stack -/
theorem W_is {x : Int} (y : Int) (h : x = y) (k : W p l e R s m args below meth c H locs cells slots Q (F0 m pc ls (.int (iI y) :: rest))) : W p l e R s m args below meth c H locs cells slots Q (F0 m pc ls (.int (iI x) :: rest)) := by rw [h]; exact k
end ROWS
end
section
/-! the cells of a HeadTail: rows over them -/
set_option maxRecDepth 100000
abbrev vwCl : List vw_C := [(RX0, TX0, 11), (RX1, TX1, 6)]
def zA (a : Nat → Int) : Nat → Int32 := fun j => iI (a j)
theorem zA_upd (a : Nat → Int) (j : Nat) (v : Int) : upd (zA a) j (iI v) = zA (updZ a j v) := by
  funext q
  by_cases h : q = j
  · subst h
    rw [pk_us]
    show iI v = iI (updZ a q v q)
    rw [updZ_s]
  · rw [pk_un h]
    show iI (a q) = iI (updZ a j v q)
    rw [updZ_n h]
theorem nar_short {v : Int} (h : -32768 ≤ v ∧ v ≤ 32767) : vp_nar .short (iI v) = iI v := by rw [vp_nar_short]; exact iI_short h
theorem nar_byte {v : Int} (h : -128 ≤ v ∧ v ≤ 127) : vp_nar .byte (iI v) = iI v := by rw [vp_nar_byte]; exact iI_byte h
theorem nar_bool {v : Int} (h : v = 0 ∨ v = 1) : vp_nar .boolean (iI v) = iI v := by
  rcases h with h | h <;> subst h <;> decide

abbrev XS : Type := Nat × (Nat → Int) × (Nat → Int) × (Nat → Int) × (Nat → Int) × (Nat → Int) × (Nat → Int) × (Nat → Int) × Int × Int × (Nat → Int)
def xw (h : Nat → Nat) (g : Nat → ClassId) (P : Nat) (rel : (Nat → Int)) (len : (Nat → Int)) (tl : (Nat → Int)) (lf : (Nat → Int)) (tr : (Nat → Int)) (dn : (Nat → Int)) (ln : (Nat → Int)) (kn : Int) (ll : Int) (bo : (Nat → Int)) : va_W := [(h 0, .inr (0, [.int (iI (P : Int)), .ref (h 1), .ref (h 2), .ref (h 3), .ref (h 4), .ref (h 5), .ref (h 6), .ref (h 7), .int (iI kn), .int (iI ll), .ref (h 8)])), (h 1, .inl (g 0, 6, .inl (zA rel))), (h 2, .inl (g 1, 6, .inl (zA len))), (h 3, .inl (g 2, 6, .inl (zA tl))), (h 4, .inl (g 3, 6, .inl (zA lf))), (h 5, .inl (g 4, 8, .inl (zA tr))), (h 6, .inl (g 5, 8, .inl (zA dn))), (h 7, .inl (g 6, 8, .inl (zA ln))), (h 8, .inl (g 7, 6, .inl (zA bo)))]
def xT (g : Nat → ClassId) : List (ClassId × FieldType) := [(g 0, .short), (g 1, .short), (g 2, .short), (g 3, .short), (g 4, .byte), (g 5, .int), (g 6, .int), (g 7, .byte)]
def xA (D : va_G) (h : Nat → Nat) (g : Nat → ClassId) (A : Nat → Prop) (s : State) (H0 : Heap) (P : Nat) (rel : (Nat → Int)) (len : (Nat → Int)) (tl : (Nat → Int)) (lf : (Nat → Int)) (tr : (Nat → Int)) (dn : (Nat → Int)) (ln : (Nat → Int)) (kn : Int) (ll : Int) (bo : (Nat → Int)) (H : Heap) (locs : List Loc) : Prop := va_K D vwCl (xT g) s ∧ va_P D vwCl (xw h g P rel len tl lf tr dn ln kn ll bo) H ∧ va_D A (xw h g P rel len tl lf tr dn ln kn ll bo) ∧ va_S A H0 H locs ∧ ∀ q, H0.size ≤ q → A q
abbrev xwu (h : Nat → Nat) (g : Nat → ClassId) (u : XS) : va_W := xw h g u.1 u.2.1 u.2.2.1 u.2.2.2.1 u.2.2.2.2.1 u.2.2.2.2.2.1 u.2.2.2.2.2.2.1 u.2.2.2.2.2.2.2.1 u.2.2.2.2.2.2.2.2.1 u.2.2.2.2.2.2.2.2.2.1 u.2.2.2.2.2.2.2.2.2.2
abbrev xAu (D : va_G) (h : Nat → Nat) (g : Nat → ClassId) (A : Nat → Prop) (s : State) (H0 : Heap) (u : XS) (H : Heap) (locs : List Loc) : Prop := xA D h g A s H0 u.1 u.2.1 u.2.2.1 u.2.2.2.1 u.2.2.2.2.1 u.2.2.2.2.2.1 u.2.2.2.2.2.2.1 u.2.2.2.2.2.2.2.1 u.2.2.2.2.2.2.2.2.1 u.2.2.2.2.2.2.2.2.2.1 u.2.2.2.2.2.2.2.2.2.2 H locs
def xWu (D : va_G) (h : Nat → Nat) (g : Nat → ClassId) (A : Nat → Prop) (u : XS) (t : State) : Prop := va_P D vwCl (xwu h g u) t.heap ∧ va_K D vwCl (xT g) t ∧ va_D A (xwu h g u)
section ROWSX
variable {p : Program} {l : Launch} {e : Env} {R : Room} {s : State} {m : MethodId} {args : Array Value} {below : List Frame} {meth : Method} {c : Code} {H : Heap} {locs : List Loc} {cells slots : Nat} {Q : State → Prop}
variable {cc : ByteArray} {pc nL : Nat} {ls : Array Slot} {rest : List Value} {own : String} {D : va_G} {h : Nat → Nat} {g : Nat → ClassId} {A : Nat → Prop} {H0 : Heap}
variable {P : Nat} {rel : (Nat → Int)} {len : (Nat → Int)} {tl : (Nat → Int)} {lf : (Nat → Int)} {tr : (Nat → Int)} {dn : (Nat → Int)} {ln : (Nat → Int)} {kn : Int} {ll : Int} {bo : (Nat → Int)}
theorem xg_P (S : CallFix p m c cc nL s args lw_all RX0) (w : xA D h g A s H0 P rel len tl lf tr dn ln kn ll bo H locs) (hd : decode cc pc = .ok (.getfield 36, 3)) (k : W p l e R s m args below meth c H locs cells slots Q (F0 m (pc + 3) ls (.int (iI (P : Int)) :: rest))) : W p l e R s m args below meth c H locs cells slots Q (F0 m pc ls (.ref (h 0) :: rest)) := va_get (D := D) (ci := 0) (v := .int (iI (P : Int))) (C := RX0) (T := TX0) (N := 11) S.1 S.2.1 S.2.2.2.2 in_X0 S.2.2.2.1 w.1 w.2.1 0 rfl rfl 0 (by decide) (S.2.2.2.2 _ q36) (fun _ h9 => h9) rfl hd k
theorem xp_P (S : CallFix p m c cc nL s args lw_all RX0) (w : xA D h g A s H0 P rel len tl lf tr dn ln kn ll bo H locs) (v : Nat) {z : Int} (hz : z = (v : Int)) (hd : decode cc pc = .ok (.putfield 36, 3)) (k : ∀ H1 locs1, xA D h g A s H0 v rel len tl lf tr dn ln kn ll bo H1 locs1 → W p l e R s m args below meth c H1 locs1 cells slots Q (F0 m (pc + 3) ls rest)) : W p l e R s m args below meth c H locs cells slots Q (F0 m pc ls (.int (iI z) :: .ref (h 0) :: rest)) := by
  subst hz
  exact va_put (D := D) (ci := 0) (v := .int (iI (v : Int))) (ty := .int) (C := RX0) (T := TX0) (N := 11) S.1 S.2.1 S.2.2.2.2 in_X0 tyX0 tyX0_ok nmX0 S.2.2.2.1 w.1 w.2.1 w.2.2.1 w.2.2.2.1 0 rfl rfl 0 (by decide) (S.2.2.2.2 _ q36) (fun _ h9 => h9) rfl (by decide +kernel) rfl rfl (Nat.le_of_ble_eq_true rfl) hd (fun H1 locs1 hP hD hS => k H1 locs1 ⟨w.1, hP, hD, hS, w.2.2.2.2⟩)
theorem xg_rel (S : CallFix p m c cc nL s args lw_all RX0) (w : xA D h g A s H0 P rel len tl lf tr dn ln kn ll bo H locs) (hd : decode cc pc = .ok (.getfield 7, 3)) (k : W p l e R s m args below meth c H locs cells slots Q (F0 m (pc + 3) ls (.ref (h 1) :: rest))) : W p l e R s m args below meth c H locs cells slots Q (F0 m pc ls (.ref (h 0) :: rest)) := va_get (D := D) (ci := 0) (v := .ref (h 1)) (C := RX0) (T := TX0) (N := 11) S.1 S.2.1 S.2.2.2.2 in_X0 S.2.2.2.1 w.1 w.2.1 0 rfl rfl 1 (by decide) (S.2.2.2.2 _ q37) (fun _ h9 => h9) rfl hd k
theorem xl_rel (S : CallFix p m c cc nL s args lw_all RX0) (w : xA D h g A s H0 P rel len tl lf tr dn ln kn ll bo H locs) (j : Nat) {z : Int} (hz : z = (j : Int)) (hj : j < 6) (hd : decode cc pc = .ok (.saload, 1)) (k : W p l e R s m args below meth c H locs cells slots Q (F0 m (pc + 1) ls (.int (iI (rel j)) :: rest))) : W p l e R s m args below meth c H locs cells slots Q (F0 m pc ls (.int (iI z) :: .ref (h 1) :: rest)) := by
  subst hz
  refine va_sald S.1 S.2.1 w.1 w.2.1 1 0 rfl rfl (iI_in hj (by decide)) hd ?_
  rw [iI_cl (by omega)]
  exact k
theorem xs_rel (S : CallFix p m c cc nL s args lw_all RX0) (w : xA D h g A s H0 P rel len tl lf tr dn ln kn ll bo H locs) (j : Nat) {z v : Int} (hz : z = (j : Int)) (hj : j < 6) (hv : -32768 ≤ v ∧ v ≤ 32767) (hd : decode cc pc = .ok (.sastore, 1)) (k : ∀ H1 locs1, xA D h g A s H0 P (updZ rel j v) len tl lf tr dn ln kn ll bo H1 locs1 → W p l e R s m args below meth c H1 locs1 cells slots Q (F0 m (pc + 1) ls rest)) : W p l e R s m args below meth c H locs cells slots Q (F0 m pc ls (.int (iI v) :: .int (iI z) :: .ref (h 1) :: rest)) := by
  subst hz
  refine va_sast S.1 S.2.1 w.1 w.2.1 w.2.2.1 w.2.2.2.1 1 0 rfl rfl (iI_in hj (by decide)) hd (fun H1 locs1 hP hD hS => ?_)
  rw [iI_cl (by omega), nar_short hv, zA_upd] at hP hD
  exact k H1 locs1 ⟨w.1, hP, hD, hS, w.2.2.2.2⟩
theorem xg_len (S : CallFix p m c cc nL s args lw_all RX0) (w : xA D h g A s H0 P rel len tl lf tr dn ln kn ll bo H locs) (hd : decode cc pc = .ok (.getfield 13, 3)) (k : W p l e R s m args below meth c H locs cells slots Q (F0 m (pc + 3) ls (.ref (h 2) :: rest))) : W p l e R s m args below meth c H locs cells slots Q (F0 m pc ls (.ref (h 0) :: rest)) := va_get (D := D) (ci := 0) (v := .ref (h 2)) (C := RX0) (T := TX0) (N := 11) S.1 S.2.1 S.2.2.2.2 in_X0 S.2.2.2.1 w.1 w.2.1 0 rfl rfl 2 (by decide) (S.2.2.2.2 _ q38) (fun _ h9 => h9) rfl hd k
theorem xl_len (S : CallFix p m c cc nL s args lw_all RX0) (w : xA D h g A s H0 P rel len tl lf tr dn ln kn ll bo H locs) (j : Nat) {z : Int} (hz : z = (j : Int)) (hj : j < 6) (hd : decode cc pc = .ok (.saload, 1)) (k : W p l e R s m args below meth c H locs cells slots Q (F0 m (pc + 1) ls (.int (iI (len j)) :: rest))) : W p l e R s m args below meth c H locs cells slots Q (F0 m pc ls (.int (iI z) :: .ref (h 2) :: rest)) := by
  subst hz
  refine va_sald S.1 S.2.1 w.1 w.2.1 2 1 rfl rfl (iI_in hj (by decide)) hd ?_
  rw [iI_cl (by omega)]
  exact k
theorem xs_len (S : CallFix p m c cc nL s args lw_all RX0) (w : xA D h g A s H0 P rel len tl lf tr dn ln kn ll bo H locs) (j : Nat) {z v : Int} (hz : z = (j : Int)) (hj : j < 6) (hv : -32768 ≤ v ∧ v ≤ 32767) (hd : decode cc pc = .ok (.sastore, 1)) (k : ∀ H1 locs1, xA D h g A s H0 P rel (updZ len j v) tl lf tr dn ln kn ll bo H1 locs1 → W p l e R s m args below meth c H1 locs1 cells slots Q (F0 m (pc + 1) ls rest)) : W p l e R s m args below meth c H locs cells slots Q (F0 m pc ls (.int (iI v) :: .int (iI z) :: .ref (h 2) :: rest)) := by
  subst hz
  refine va_sast S.1 S.2.1 w.1 w.2.1 w.2.2.1 w.2.2.2.1 2 1 rfl rfl (iI_in hj (by decide)) hd (fun H1 locs1 hP hD hS => ?_)
  rw [iI_cl (by omega), nar_short hv, zA_upd] at hP hD
  exact k H1 locs1 ⟨w.1, hP, hD, hS, w.2.2.2.2⟩
theorem xg_tl (S : CallFix p m c cc nL s args lw_all RX0) (w : xA D h g A s H0 P rel len tl lf tr dn ln kn ll bo H locs) (hd : decode cc pc = .ok (.getfield 16, 3)) (k : W p l e R s m args below meth c H locs cells slots Q (F0 m (pc + 3) ls (.ref (h 3) :: rest))) : W p l e R s m args below meth c H locs cells slots Q (F0 m pc ls (.ref (h 0) :: rest)) := va_get (D := D) (ci := 0) (v := .ref (h 3)) (C := RX0) (T := TX0) (N := 11) S.1 S.2.1 S.2.2.2.2 in_X0 S.2.2.2.1 w.1 w.2.1 0 rfl rfl 3 (by decide) (S.2.2.2.2 _ q39) (fun _ h9 => h9) rfl hd k
theorem xl_tl (S : CallFix p m c cc nL s args lw_all RX0) (w : xA D h g A s H0 P rel len tl lf tr dn ln kn ll bo H locs) (j : Nat) {z : Int} (hz : z = (j : Int)) (hj : j < 6) (hd : decode cc pc = .ok (.saload, 1)) (k : W p l e R s m args below meth c H locs cells slots Q (F0 m (pc + 1) ls (.int (iI (tl j)) :: rest))) : W p l e R s m args below meth c H locs cells slots Q (F0 m pc ls (.int (iI z) :: .ref (h 3) :: rest)) := by
  subst hz
  refine va_sald S.1 S.2.1 w.1 w.2.1 3 2 rfl rfl (iI_in hj (by decide)) hd ?_
  rw [iI_cl (by omega)]
  exact k
theorem xs_tl (S : CallFix p m c cc nL s args lw_all RX0) (w : xA D h g A s H0 P rel len tl lf tr dn ln kn ll bo H locs) (j : Nat) {z v : Int} (hz : z = (j : Int)) (hj : j < 6) (hv : -32768 ≤ v ∧ v ≤ 32767) (hd : decode cc pc = .ok (.sastore, 1)) (k : ∀ H1 locs1, xA D h g A s H0 P rel len (updZ tl j v) lf tr dn ln kn ll bo H1 locs1 → W p l e R s m args below meth c H1 locs1 cells slots Q (F0 m (pc + 1) ls rest)) : W p l e R s m args below meth c H locs cells slots Q (F0 m pc ls (.int (iI v) :: .int (iI z) :: .ref (h 3) :: rest)) := by
  subst hz
  refine va_sast S.1 S.2.1 w.1 w.2.1 w.2.2.1 w.2.2.2.1 3 2 rfl rfl (iI_in hj (by decide)) hd (fun H1 locs1 hP hD hS => ?_)
  rw [iI_cl (by omega), nar_short hv, zA_upd] at hP hD
  exact k H1 locs1 ⟨w.1, hP, hD, hS, w.2.2.2.2⟩
theorem xg_lf (S : CallFix p m c cc nL s args lw_all RX0) (w : xA D h g A s H0 P rel len tl lf tr dn ln kn ll bo H locs) (hd : decode cc pc = .ok (.getfield 19, 3)) (k : W p l e R s m args below meth c H locs cells slots Q (F0 m (pc + 3) ls (.ref (h 4) :: rest))) : W p l e R s m args below meth c H locs cells slots Q (F0 m pc ls (.ref (h 0) :: rest)) := va_get (D := D) (ci := 0) (v := .ref (h 4)) (C := RX0) (T := TX0) (N := 11) S.1 S.2.1 S.2.2.2.2 in_X0 S.2.2.2.1 w.1 w.2.1 0 rfl rfl 4 (by decide) (S.2.2.2.2 _ q40) (fun _ h9 => h9) rfl hd k
theorem xl_lf (S : CallFix p m c cc nL s args lw_all RX0) (w : xA D h g A s H0 P rel len tl lf tr dn ln kn ll bo H locs) (j : Nat) {z : Int} (hz : z = (j : Int)) (hj : j < 6) (hd : decode cc pc = .ok (.saload, 1)) (k : W p l e R s m args below meth c H locs cells slots Q (F0 m (pc + 1) ls (.int (iI (lf j)) :: rest))) : W p l e R s m args below meth c H locs cells slots Q (F0 m pc ls (.int (iI z) :: .ref (h 4) :: rest)) := by
  subst hz
  refine va_sald S.1 S.2.1 w.1 w.2.1 4 3 rfl rfl (iI_in hj (by decide)) hd ?_
  rw [iI_cl (by omega)]
  exact k
theorem xs_lf (S : CallFix p m c cc nL s args lw_all RX0) (w : xA D h g A s H0 P rel len tl lf tr dn ln kn ll bo H locs) (j : Nat) {z v : Int} (hz : z = (j : Int)) (hj : j < 6) (hv : -32768 ≤ v ∧ v ≤ 32767) (hd : decode cc pc = .ok (.sastore, 1)) (k : ∀ H1 locs1, xA D h g A s H0 P rel len tl (updZ lf j v) tr dn ln kn ll bo H1 locs1 → W p l e R s m args below meth c H1 locs1 cells slots Q (F0 m (pc + 1) ls rest)) : W p l e R s m args below meth c H locs cells slots Q (F0 m pc ls (.int (iI v) :: .int (iI z) :: .ref (h 4) :: rest)) := by
  subst hz
  refine va_sast S.1 S.2.1 w.1 w.2.1 w.2.2.1 w.2.2.2.1 4 3 rfl rfl (iI_in hj (by decide)) hd (fun H1 locs1 hP hD hS => ?_)
  rw [iI_cl (by omega), nar_short hv, zA_upd] at hP hD
  exact k H1 locs1 ⟨w.1, hP, hD, hS, w.2.2.2.2⟩
theorem xg_tr (S : CallFix p m c cc nL s args lw_all RX0) (w : xA D h g A s H0 P rel len tl lf tr dn ln kn ll bo H locs) (hd : decode cc pc = .ok (.getfield 22, 3)) (k : W p l e R s m args below meth c H locs cells slots Q (F0 m (pc + 3) ls (.ref (h 5) :: rest))) : W p l e R s m args below meth c H locs cells slots Q (F0 m pc ls (.ref (h 0) :: rest)) := va_get (D := D) (ci := 0) (v := .ref (h 5)) (C := RX0) (T := TX0) (N := 11) S.1 S.2.1 S.2.2.2.2 in_X0 S.2.2.2.1 w.1 w.2.1 0 rfl rfl 5 (by decide) (S.2.2.2.2 _ q41) (fun _ h9 => h9) rfl hd k
theorem xl_tr (S : CallFix p m c cc nL s args lw_all RX0) (w : xA D h g A s H0 P rel len tl lf tr dn ln kn ll bo H locs) (j : Nat) {z : Int} (hz : z = (j : Int)) (hj : j < 8) (hd : decode cc pc = .ok (.baload, 1)) (k : W p l e R s m args below meth c H locs cells slots Q (F0 m (pc + 1) ls (.int (iI (tr j)) :: rest))) : W p l e R s m args below meth c H locs cells slots Q (F0 m pc ls (.int (iI z) :: .ref (h 5) :: rest)) := by
  subst hz
  refine va_bald S.1 S.2.1 w.1 w.2.1 5 4 rfl rfl (iI_in hj (by decide)) hd ?_
  rw [iI_cl (by omega)]
  exact k
theorem xs_tr (S : CallFix p m c cc nL s args lw_all RX0) (w : xA D h g A s H0 P rel len tl lf tr dn ln kn ll bo H locs) (j : Nat) {z v : Int} (hz : z = (j : Int)) (hj : j < 8) (hv : -128 ≤ v ∧ v ≤ 127) (hd : decode cc pc = .ok (.bastore, 1)) (k : ∀ H1 locs1, xA D h g A s H0 P rel len tl lf (updZ tr j v) dn ln kn ll bo H1 locs1 → W p l e R s m args below meth c H1 locs1 cells slots Q (F0 m (pc + 1) ls rest)) : W p l e R s m args below meth c H locs cells slots Q (F0 m pc ls (.int (iI v) :: .int (iI z) :: .ref (h 5) :: rest)) := by
  subst hz
  refine va_bast S.1 S.2.1 w.1 w.2.1 w.2.2.1 w.2.2.2.1 5 4 rfl rfl (iI_in hj (by decide)) hd (fun H1 locs1 hP hD hS => ?_)
  rw [iI_cl (by omega), nar_byte hv, zA_upd] at hP hD
  exact k H1 locs1 ⟨w.1, hP, hD, hS, w.2.2.2.2⟩
theorem xg_dn (S : CallFix p m c cc nL s args lw_all RX0) (w : xA D h g A s H0 P rel len tl lf tr dn ln kn ll bo H locs) (hd : decode cc pc = .ok (.getfield 26, 3)) (k : W p l e R s m args below meth c H locs cells slots Q (F0 m (pc + 3) ls (.ref (h 6) :: rest))) : W p l e R s m args below meth c H locs cells slots Q (F0 m pc ls (.ref (h 0) :: rest)) := va_get (D := D) (ci := 0) (v := .ref (h 6)) (C := RX0) (T := TX0) (N := 11) S.1 S.2.1 S.2.2.2.2 in_X0 S.2.2.2.1 w.1 w.2.1 0 rfl rfl 6 (by decide) (S.2.2.2.2 _ q42) (fun _ h9 => h9) rfl hd k
theorem xl_dn (S : CallFix p m c cc nL s args lw_all RX0) (w : xA D h g A s H0 P rel len tl lf tr dn ln kn ll bo H locs) (j : Nat) {z : Int} (hz : z = (j : Int)) (hj : j < 8) (hd : decode cc pc = .ok (.iaload, 1)) (k : W p l e R s m args below meth c H locs cells slots Q (F0 m (pc + 1) ls (.int (iI (dn j)) :: rest))) : W p l e R s m args below meth c H locs cells slots Q (F0 m pc ls (.int (iI z) :: .ref (h 6) :: rest)) := by
  subst hz
  refine va_iald S.1 S.2.1 w.1 w.2.1 6 5 rfl rfl (iI_in hj (by decide)) hd ?_
  rw [iI_cl (by omega)]
  exact k
theorem xs_dn (S : CallFix p m c cc nL s args lw_all RX0) (w : xA D h g A s H0 P rel len tl lf tr dn ln kn ll bo H locs) (j : Nat) {z v : Int} (hz : z = (j : Int)) (hj : j < 8) (hd : decode cc pc = .ok (.iastore, 1)) (k : ∀ H1 locs1, xA D h g A s H0 P rel len tl lf tr (updZ dn j v) ln kn ll bo H1 locs1 → W p l e R s m args below meth c H1 locs1 cells slots Q (F0 m (pc + 1) ls rest)) : W p l e R s m args below meth c H locs cells slots Q (F0 m pc ls (.int (iI v) :: .int (iI z) :: .ref (h 6) :: rest)) := by
  subst hz
  refine va_iast S.1 S.2.1 w.1 w.2.1 w.2.2.1 w.2.2.2.1 6 5 rfl rfl (iI_in hj (by decide)) hd (fun H1 locs1 hP hD hS => ?_)
  rw [iI_cl (by omega), zA_upd] at hP hD
  exact k H1 locs1 ⟨w.1, hP, hD, hS, w.2.2.2.2⟩
theorem xg_ln (S : CallFix p m c cc nL s args lw_all RX0) (w : xA D h g A s H0 P rel len tl lf tr dn ln kn ll bo H locs) (hd : decode cc pc = .ok (.getfield 30, 3)) (k : W p l e R s m args below meth c H locs cells slots Q (F0 m (pc + 3) ls (.ref (h 7) :: rest))) : W p l e R s m args below meth c H locs cells slots Q (F0 m pc ls (.ref (h 0) :: rest)) := va_get (D := D) (ci := 0) (v := .ref (h 7)) (C := RX0) (T := TX0) (N := 11) S.1 S.2.1 S.2.2.2.2 in_X0 S.2.2.2.1 w.1 w.2.1 0 rfl rfl 7 (by decide) (S.2.2.2.2 _ q43) (fun _ h9 => h9) rfl hd k
theorem xl_ln (S : CallFix p m c cc nL s args lw_all RX0) (w : xA D h g A s H0 P rel len tl lf tr dn ln kn ll bo H locs) (j : Nat) {z : Int} (hz : z = (j : Int)) (hj : j < 8) (hd : decode cc pc = .ok (.iaload, 1)) (k : W p l e R s m args below meth c H locs cells slots Q (F0 m (pc + 1) ls (.int (iI (ln j)) :: rest))) : W p l e R s m args below meth c H locs cells slots Q (F0 m pc ls (.int (iI z) :: .ref (h 7) :: rest)) := by
  subst hz
  refine va_iald S.1 S.2.1 w.1 w.2.1 7 6 rfl rfl (iI_in hj (by decide)) hd ?_
  rw [iI_cl (by omega)]
  exact k
theorem xs_ln (S : CallFix p m c cc nL s args lw_all RX0) (w : xA D h g A s H0 P rel len tl lf tr dn ln kn ll bo H locs) (j : Nat) {z v : Int} (hz : z = (j : Int)) (hj : j < 8) (hd : decode cc pc = .ok (.iastore, 1)) (k : ∀ H1 locs1, xA D h g A s H0 P rel len tl lf tr dn (updZ ln j v) kn ll bo H1 locs1 → W p l e R s m args below meth c H1 locs1 cells slots Q (F0 m (pc + 1) ls rest)) : W p l e R s m args below meth c H locs cells slots Q (F0 m pc ls (.int (iI v) :: .int (iI z) :: .ref (h 7) :: rest)) := by
  subst hz
  refine va_iast S.1 S.2.1 w.1 w.2.1 w.2.2.1 w.2.2.2.1 7 6 rfl rfl (iI_in hj (by decide)) hd (fun H1 locs1 hP hD hS => ?_)
  rw [iI_cl (by omega), zA_upd] at hP hD
  exact k H1 locs1 ⟨w.1, hP, hD, hS, w.2.2.2.2⟩
theorem xg_kn (S : CallFix p m c cc nL s args lw_all RX0) (w : xA D h g A s H0 P rel len tl lf tr dn ln kn ll bo H locs) (hd : decode cc pc = .ok (.getfield 40, 3)) (k : W p l e R s m args below meth c H locs cells slots Q (F0 m (pc + 3) ls (.int (iI kn) :: rest))) : W p l e R s m args below meth c H locs cells slots Q (F0 m pc ls (.ref (h 0) :: rest)) := va_get (D := D) (ci := 0) (v := .int (iI kn)) (C := RX0) (T := TX0) (N := 11) S.1 S.2.1 S.2.2.2.2 in_X0 S.2.2.2.1 w.1 w.2.1 0 rfl rfl 8 (by decide) (S.2.2.2.2 _ q44) (fun _ h9 => h9) rfl hd k
theorem xp_kn (S : CallFix p m c cc nL s args lw_all RX0) (w : xA D h g A s H0 P rel len tl lf tr dn ln kn ll bo H locs) {v : Int} (hv : v = 0 ∨ v = 1) (hd : decode cc pc = .ok (.putfield 40, 3)) (k : ∀ H1 locs1, xA D h g A s H0 P rel len tl lf tr dn ln v ll bo H1 locs1 → W p l e R s m args below meth c H1 locs1 cells slots Q (F0 m (pc + 3) ls rest)) : W p l e R s m args below meth c H locs cells slots Q (F0 m pc ls (.int (iI v) :: .ref (h 0) :: rest)) := by
  exact va_put (D := D) (ci := 0) (v := .int (iI v)) (ty := .boolean) (C := RX0) (T := TX0) (N := 11) S.1 S.2.1 S.2.2.2.2 in_X0 tyX0 tyX0_ok nmX0 S.2.2.2.1 w.1 w.2.1 w.2.2.1 w.2.2.2.1 0 rfl rfl 8 (by decide) (S.2.2.2.2 _ q44) (fun _ h9 => h9) rfl (by decide +kernel) (by rcases hv with q | q <;> subst q <;> rfl) (by rcases hv with q | q <;> subst q <;> decide) (Nat.le_of_ble_eq_true rfl) hd (fun H1 locs1 hP hD hS => k H1 locs1 ⟨w.1, hP, hD, hS, w.2.2.2.2⟩)
theorem xg_ll (S : CallFix p m c cc nL s args lw_all RX0) (w : xA D h g A s H0 P rel len tl lf tr dn ln kn ll bo H locs) (hd : decode cc pc = .ok (.getfield 90, 3)) (k : W p l e R s m args below meth c H locs cells slots Q (F0 m (pc + 3) ls (.int (iI ll) :: rest))) : W p l e R s m args below meth c H locs cells slots Q (F0 m pc ls (.ref (h 0) :: rest)) := va_get (D := D) (ci := 0) (v := .int (iI ll)) (C := RX0) (T := TX0) (N := 11) S.1 S.2.1 S.2.2.2.2 in_X0 S.2.2.2.1 w.1 w.2.1 0 rfl rfl 9 (by decide) (S.2.2.2.2 _ q45) (fun _ h9 => h9) rfl hd k
theorem xp_ll (S : CallFix p m c cc nL s args lw_all RX0) (w : xA D h g A s H0 P rel len tl lf tr dn ln kn ll bo H locs) {v : Int} (hd : decode cc pc = .ok (.putfield 90, 3)) (k : ∀ H1 locs1, xA D h g A s H0 P rel len tl lf tr dn ln kn v bo H1 locs1 → W p l e R s m args below meth c H1 locs1 cells slots Q (F0 m (pc + 3) ls rest)) : W p l e R s m args below meth c H locs cells slots Q (F0 m pc ls (.int (iI v) :: .ref (h 0) :: rest)) := by
  exact va_put (D := D) (ci := 0) (v := .int (iI v)) (ty := .int) (C := RX0) (T := TX0) (N := 11) S.1 S.2.1 S.2.2.2.2 in_X0 tyX0 tyX0_ok nmX0 S.2.2.2.1 w.1 w.2.1 w.2.2.1 w.2.2.2.1 0 rfl rfl 9 (by decide) (S.2.2.2.2 _ q45) (fun _ h9 => h9) rfl (by decide +kernel) rfl rfl (Nat.le_of_ble_eq_true rfl) hd (fun H1 locs1 hP hD hS => k H1 locs1 ⟨w.1, hP, hD, hS, w.2.2.2.2⟩)
theorem xg_bo (S : CallFix p m c cc nL s args lw_all RX0) (w : xA D h g A s H0 P rel len tl lf tr dn ln kn ll bo H locs) (hd : decode cc pc = .ok (.getfield 33, 3)) (k : W p l e R s m args below meth c H locs cells slots Q (F0 m (pc + 3) ls (.ref (h 8) :: rest))) : W p l e R s m args below meth c H locs cells slots Q (F0 m pc ls (.ref (h 0) :: rest)) := va_get (D := D) (ci := 0) (v := .ref (h 8)) (C := RX0) (T := TX0) (N := 11) S.1 S.2.1 S.2.2.2.2 in_X0 S.2.2.2.1 w.1 w.2.1 0 rfl rfl 10 (by decide) (S.2.2.2.2 _ q46) (fun _ h9 => h9) rfl hd k
theorem xl_bo (S : CallFix p m c cc nL s args lw_all RX0) (w : xA D h g A s H0 P rel len tl lf tr dn ln kn ll bo H locs) (j : Nat) {z : Int} (hz : z = (j : Int)) (hj : j < 6) (hd : decode cc pc = .ok (.baload, 1)) (k : W p l e R s m args below meth c H locs cells slots Q (F0 m (pc + 1) ls (.int (iI (bo j)) :: rest))) : W p l e R s m args below meth c H locs cells slots Q (F0 m pc ls (.int (iI z) :: .ref (h 8) :: rest)) := by
  subst hz
  refine va_bald S.1 S.2.1 w.1 w.2.1 8 7 rfl rfl (iI_in hj (by decide)) hd ?_
  rw [iI_cl (by omega)]
  exact k
theorem xs_bo (S : CallFix p m c cc nL s args lw_all RX0) (w : xA D h g A s H0 P rel len tl lf tr dn ln kn ll bo H locs) (j : Nat) {z v : Int} (hz : z = (j : Int)) (hj : j < 6) (hv : -128 ≤ v ∧ v ≤ 127) (hd : decode cc pc = .ok (.bastore, 1)) (k : ∀ H1 locs1, xA D h g A s H0 P rel len tl lf tr dn ln kn ll (updZ bo j v) H1 locs1 → W p l e R s m args below meth c H1 locs1 cells slots Q (F0 m (pc + 1) ls rest)) : W p l e R s m args below meth c H locs cells slots Q (F0 m pc ls (.int (iI v) :: .int (iI z) :: .ref (h 8) :: rest)) := by
  subst hz
  refine va_bast S.1 S.2.1 w.1 w.2.1 w.2.2.1 w.2.2.2.1 8 7 rfl rfl (iI_in hj (by decide)) hd (fun H1 locs1 hP hD hS => ?_)
  rw [iI_cl (by omega), nar_byte hv, zA_upd] at hP hD
  exact k H1 locs1 ⟨w.1, hP, hD, hS, w.2.2.2.2⟩
end ROWSX
/-- a contract of a method that answers a number -/
def CXi (l : Launch) (y : MethodName) (cd : ByteArray) (L : Nat) (ret : Option FieldType) (fr lo : Nat) (as : List Value) (u0 : XS) {S : Type} (post : Int → S → Prop) (f : S → XS) : Prop := ∀ (D : va_G) (h : Nat → Nat) (g : Nat → ClassId) (sz : Nat), Met l y (ws_ y cd L ret) ({ frames := fr, cells := 0, slots := 0, locals := lo }) (va_Pc (.ref (h 0) :: as) (fun U => U.heap.size = sz ∧ xWu D h g (fun _ => True) u0 U)) (va_Qi (fun r u => ∃ z, r = iI z ∧ post z u) (fun u t => xWu D h g (va_A (xwu h g u0) sz) (f u) t) (va_A (xwu h g u0) sz)) 0 0 (va_A (xwu h g u0) sz)
/-- a contract of a method that answers nothing -/
def CXv (l : Launch) (y : MethodName) (cd : ByteArray) (L : Nat) (fr lo : Nat) (as : List Value) (u0 : XS) {S : Type} (post : S → Prop) (f : S → XS) : Prop := ∀ (D : va_G) (h : Nat → Nat) (g : Nat → ClassId) (sz : Nat), Met l y (ws_ y cd L none) ({ frames := fr, cells := 0, slots := 0, locals := lo }) (va_Pc (.ref (h 0) :: as) (fun U => U.heap.size = sz ∧ xWu D h g (fun _ => True) u0 U)) (va_Qv post (fun u t => xWu D h g (va_A (xwu h g u0) sz) (f u) t) (va_A (xwu h g u0) sz)) 0 0 (va_A (xwu h g u0) sz)
/-- the words of a call -/
def xF (own : String) (idx : Nat) (y : MethodName) (cd : ByteArray) (L : Nat) (ret : Option FieldType) (n : Nat) : Prop := Cond.methodLink own idx y ∈ lw_all ∧ Cond.instanceMethod y ∈ lw_all ∧ Cond.selects RX0 y y ∈ lw_all ∧ Cond.code y cd L ret ∈ lw_all ∧ (y.cls = RX0 ∧ y.cls ≠ "java/lang/invoke/MethodHandle" ∧ y.cls ≠ "java/lang/invoke/VarHandle" ∧ (parseMethodDescriptor y.desc).map (fun d => d.parameters.length) = some n)
theorem CXi.of {l : Launch} {y : MethodName} {cd : ByteArray} {L : Nat} {ret : Option FieldType} {fr lo : Nat} {as : List Value} {u0 : XS} {S : Type} {post : Int → S → Prop} {f : S → XS} (hy : plainName y.cls = true) (hcl : y.cls = RX0) (hL : ∀ h0, (lg_sl (.ref h0 :: as)).length ≤ L)
    (body : ∀ (p : Program) (e : Env) (s : State) (m : MethodId) (below : List Frame) (meth : Method) (c : Code) (D : va_G) (h : Nat → Nat) (g : Nat → ClassId) (A : Nat → Prop), CallFix p m c cd L s (.ref (h 0) :: as : List Value).toArray lw_all RX0 → meth.sig.returnType = ret → meth.locks = false → xAu D h g A s s.heap u0 s.heap [] → ∀ ls : Array Slot, lv_has ls L (lv_args 0 (.ref (h 0) :: as)) → W p l e ({ frames := fr, cells := 0, slots := 0, locals := lo }) s m (.ref (h 0) :: as : List Value).toArray below meth c s.heap [] 0 0 (MQ below (va_Qi (fun r u => ∃ z, r = iI z ∧ post z u) (fun u t => xWu D h g A (f u) t) A) (.ref (h 0) :: as : List Value).toArray s 0 0 A) (F0 m 0 ls [])) : CXi l y cd L ret fr lo as u0 post f := by
  intro D h g sz
  refine Met.ofW (cc := cd) (maxL := L) (ret := ret) hy rfl ?_
  intro p e s m args below meth c s₁ B hml hv
  obtain ⟨rfl, hsz, hP, hK, hD0⟩ := hv
  have hts := atoms_spec (ws := ws_ y cd L ret) B.pre
  have hts : ∀ w ∈ lw_all, w.before _ s = true := fun w h => hts w (List.mem_cons_of_mem _ h)
  have hown : s.vm.findClass RX0 = some m.cls := by
    have h1 := findClass_of_methodNamed B.named
    rw [hcl] at h1
    exact h1
  subst hsz
  have hl := lv_entry (.ref (h 0) :: as) (n := L) (hL (h 0))
  rw [lg_entry_eq]
  generalize (lg_sl (.ref (h 0) :: as) ++ List.replicate (L - (lg_sl (.ref (h 0) :: as)).length) Slot.unset).toArray = ls at hl ⊢
  exact body p e s m below meth c D h g (va_A (xwu h g u0) s.heap.size) ⟨B.exec, B.bytes, hml, hown, hts⟩ B.returns B.notSynchronized ⟨hK, hP, hD0.self, va_S.rf, fun q hq => Or.inr hq⟩ ls hl
theorem CXv.of {l : Launch} {y : MethodName} {cd : ByteArray} {L : Nat} {fr lo : Nat} {as : List Value} {u0 : XS} {S : Type} {post : S → Prop} {f : S → XS} (hy : plainName y.cls = true) (hcl : y.cls = RX0) (hL : ∀ h0, (lg_sl (.ref h0 :: as)).length ≤ L)
    (body : ∀ (p : Program) (e : Env) (s : State) (m : MethodId) (below : List Frame) (meth : Method) (c : Code) (D : va_G) (h : Nat → Nat) (g : Nat → ClassId) (A : Nat → Prop), CallFix p m c cd L s (.ref (h 0) :: as : List Value).toArray lw_all RX0 → meth.sig.returnType = none → meth.locks = false → xAu D h g A s s.heap u0 s.heap [] → ∀ ls : Array Slot, lv_has ls L (lv_args 0 (.ref (h 0) :: as)) → W p l e ({ frames := fr, cells := 0, slots := 0, locals := lo }) s m (.ref (h 0) :: as : List Value).toArray below meth c s.heap [] 0 0 (MQ below (va_Qv post (fun u t => xWu D h g A (f u) t) A) (.ref (h 0) :: as : List Value).toArray s 0 0 A) (F0 m 0 ls [])) : CXv l y cd L fr lo as u0 post f := by
  intro D h g sz
  refine Met.ofW (cc := cd) (maxL := L) (ret := none) hy rfl ?_
  intro p e s m args below meth c s₁ B hml hv
  obtain ⟨rfl, hsz, hP, hK, hD0⟩ := hv
  have hts := atoms_spec (ws := ws_ y cd L none) B.pre
  have hts : ∀ w ∈ lw_all, w.before _ s = true := fun w h => hts w (List.mem_cons_of_mem _ h)
  have hown : s.vm.findClass RX0 = some m.cls := by
    have h1 := findClass_of_methodNamed B.named
    rw [hcl] at h1
    exact h1
  subst hsz
  have hl := lv_entry (.ref (h 0) :: as) (n := L) (hL (h 0))
  rw [lg_entry_eq]
  generalize (lg_sl (.ref (h 0) :: as) ++ List.replicate (L - (lg_sl (.ref (h 0) :: as)).length) Slot.unset).toArray = ls at hl ⊢
  exact body p e s m below meth c D h g (va_A (xwu h g u0) s.heap.size) ⟨B.exec, B.bytes, hml, hown, hts⟩ B.returns B.notSynchronized ⟨hK, hP, hD0.self, va_S.rf, fun q hq => Or.inr hq⟩ ls hl
section RETSX
variable {p : Program} {l : Launch} {e : Env} {R : Room} {s : State} {m : MethodId} {args : Array Value} {below : List Frame} {meth : Method} {c : Code} {H : Heap} {locs : List Loc} {cells slots : Nat} {Q : State → Prop}
variable {cc : ByteArray} {pc nL : Nat} {ls : Array Slot} {rest : List Value} {own : String} {D : va_G} {h : Nat → Nat} {g : Nat → ClassId} {A : Nat → Prop} {H0 : Heap}

theorem xreti {A : Nat → Prop} {S : Type} {post : Int → S → Prop} {f : S → XS} {ty : FieldType} {z : Int} (u : S) (S' : CallFix p m c cc nL s args lw_all own) (hr : meth.sig.returnType = some ty) (hn : narrow ty (.int (iI z)) = .int (iI z)) (hlk : meth.locks = false) (w : xAu D h g A s s.heap (f u) H locs) (hp : post z u) (hd : decode cc pc = .ok (.ireturn, 1)) : W p l e R s m args below meth c H locs cells slots (MQ below (va_Qi (fun r u => ∃ z, r = iI z ∧ post z u) (fun u t => xWu D h g A (f u) t) A) args s cells slots A) (F0 m pc ls [.int (iI z)]) :=
  W.zret S'.1 S'.2.1 hr hn (fun t ht hW => ⟨⟨iI z, u, rfl, ⟨z, rfl, hp⟩, by rw [ht]; exact w.2.1, va_K.moved hW.alike w.1, w.2.2.1⟩, w.2.2.2.1.F ht⟩) w.2.2.2.1.2.2 hd hlk
theorem xretv {A : Nat → Prop} {S : Type} {post : S → Prop} {f : S → XS} (u : S) (S' : CallFix p m c cc nL s args lw_all own) (hr : meth.sig.returnType = none) (hlk : meth.locks = false) (w : xAu D h g A s s.heap (f u) H locs) (hp : post u) (hd : decode cc pc = .ok (.return_, 1)) : W p l e R s m args below meth c H locs cells slots (MQ below (va_Qv post (fun u t => xWu D h g A (f u) t) A) args s cells slots A) (F0 m pc ls []) :=
  W.vret S'.1 S'.2.1 hr (fun t ht hW => ⟨⟨u, rfl, hp, by rw [ht]; exact w.2.1, va_K.moved hW.alike w.1, w.2.2.1⟩, w.2.2.2.1.F ht⟩) w.2.2.2.1.2.2 hd hlk
variable {y : MethodName} {cd : ByteArray} {L fr lo n idx : Nat} {ret : Option FieldType} {as st : List Value} {u0 : XS} {S : Type} {f : S → XS}
theorem xcalli {post : Int → S → Prop} (rest : List Value) (S' : CallFix p m c cc nL s args lw_all own) (w : xAu D h g A s H0 u0 H locs) (F : xF own idx y cd L ret n) (hM : CXi l y cd L ret fr lo as u0 post f) (hn : as.length = n) (hR : fr + 1 ≤ R.frames ∧ 8 + (L + 11) + lo ≤ R.locals) (hsz : ls.size = nL) (hcat : (rest.map fun v => v.category).sum ≤ 8) (hst : st = as.reverse ++ .ref (h 0) :: rest) (hc : cells ≤ R.cells ∧ slots ≤ R.slots) (hd : decode cc pc = .ok (.invokevirtual idx, 3)) (k : ∀ (z : Int) (u : S) (H1 : Heap) (locs1 : List Loc), post z u → xAu D h g A s H0 (f u) H1 locs1 → W p l e R s m args below meth c H1 locs1 cells slots Q (F0 m (pc + 3) ls (.int (iI z) :: rest))) : W p l e R s m args below meth c H locs cells slots Q (F0 m pc ls st) := by
  subst hst
  obtain ⟨hK, hP, hD, hS, hA⟩ := w
  have hFc : ∀ q, va_A (xwu h g u0) H.size q → A q := va_free (wc := xwu h g u0) hD hS hA [0, 1, 2, 3, 4, 5, 6, 7, 8] rfl
  refine va_calli (va_runV (As := as) (rest := rest) S' (hM D h g H.size) (cwV n S'.2.2.2.2 (lw_V F.1 F.2.1 F.2.2.1 q26 F.2.2.2.1) rfl rfl rfl F.2.2.2.2 hR) ⟨fun a U g mk q => by obtain ⟨q0, q1, qP, qK, qD⟩ := q; exact ⟨q0, q1, qP, va_K.moved (u := U) (U := U.calling g mk a) (Vm.Alike.refl U.vm) qK, qD⟩, va_recv hK hP (ci := 0) (q0 := 0) rfl rfl, fun U hU hW => ⟨rfl, by rw [hU], by rw [hU]; exact hP, va_K.moved hW.alike hK, hD.weaken (fun _ _ _ _ => trivial)⟩⟩ rfl hn hsz rfl (lv_room hcat) hd hc) hS (fun q _ h => hFc q h) hFc (fun r u t H1 locs1 ht hvm hp hB hz hk1 hS1 => ?_)
  obtain ⟨z, rfl, hp⟩ := hp
  obtain ⟨hP1, hK1, hD1⟩ := hB
  rw [ht] at hP1
  exact k z u H1 locs1 hp ⟨va_K.moved hvm.symm hK1, hP1, hD1.weaken (fun k q _ h => hFc q.1 h), hS1, hA⟩
theorem xcallv {post : S → Prop} (rest : List Value) (S' : CallFix p m c cc nL s args lw_all own) (w : xAu D h g A s H0 u0 H locs) (F : xF own idx y cd L none n) (hM : CXv l y cd L fr lo as u0 post f) (hn : as.length = n) (hR : fr + 1 ≤ R.frames ∧ 8 + (L + 11) + lo ≤ R.locals) (hsz : ls.size = nL) (hcat : (rest.map fun v => v.category).sum ≤ 8) (hst : st = as.reverse ++ .ref (h 0) :: rest) (hc : cells ≤ R.cells ∧ slots ≤ R.slots) (hd : decode cc pc = .ok (.invokevirtual idx, 3)) (k : ∀ (u : S) (H1 : Heap) (locs1 : List Loc), post u → xAu D h g A s H0 (f u) H1 locs1 → W p l e R s m args below meth c H1 locs1 cells slots Q (F0 m (pc + 3) ls rest)) : W p l e R s m args below meth c H locs cells slots Q (F0 m pc ls st) := by
  subst hst
  obtain ⟨hK, hP, hD, hS, hA⟩ := w
  have hFc : ∀ q, va_A (xwu h g u0) H.size q → A q := va_free (wc := xwu h g u0) hD hS hA [0, 1, 2, 3, 4, 5, 6, 7, 8] rfl
  refine va_callv (va_runV (As := as) (rest := rest) S' (hM D h g H.size) (cwV n S'.2.2.2.2 (lw_V F.1 F.2.1 F.2.2.1 q26 F.2.2.2.1) rfl rfl rfl F.2.2.2.2 hR) ⟨fun a U g mk q => by obtain ⟨q0, q1, qP, qK, qD⟩ := q; exact ⟨q0, q1, qP, va_K.moved (u := U) (U := U.calling g mk a) (Vm.Alike.refl U.vm) qK, qD⟩, va_recv hK hP (ci := 0) (q0 := 0) rfl rfl, fun U hU hW => ⟨rfl, by rw [hU], by rw [hU]; exact hP, va_K.moved hW.alike hK, hD.weaken (fun _ _ _ _ => trivial)⟩⟩ rfl hn hsz rfl (lv_room hcat) hd hc) hS (fun q _ h => hFc q h) hFc (fun u t H1 locs1 ht hvm hp hB hz hk1 hS1 => ?_)
  obtain ⟨hP1, hK1, hD1⟩ := hB
  rw [ht] at hP1
  exact k u H1 locs1 hp ⟨va_K.moved hvm.symm hK1, hP1, hD1.weaken (fun k q _ h => hFc q.1 h), hS1, hA⟩
end RETSX
end
section
/-! the cells of a HeadTailModel: rows over them -/
set_option maxRecDepth 100000

abbrev YS : Type := (Nat → Int) × (Nat → Int) × Int × Int × (Nat → Int) × (Nat → Int)
def yw (h : Nat → Nat) (g : Nat → ClassId) (th : (Nat → Int)) (pt : (Nat → Int)) (nn : Int) (od : Int) (li : (Nat → Int)) (st : (Nat → Int)) : va_W := [(h 0, .inr (1, [.ref (h 1), .ref (h 2), .int (iI nn), .int (iI od), .ref (h 3), .ref (h 4)])), (h 1, .inl (g 0, 6, .inl (zA th))), (h 2, .inl (g 1, 18, .inl (zA pt))), (h 3, .inl (g 2, 6, .inl (zA li))), (h 4, .inl (g 3, 6, .inl (zA st)))]
def yT (g : Nat → ClassId) : List (ClassId × FieldType) := [(g 0, .boolean), (g 1, .int), (g 2, .int), (g 3, .int)]
def yA (D : va_G) (h : Nat → Nat) (g : Nat → ClassId) (A : Nat → Prop) (s : State) (H0 : Heap) (th : (Nat → Int)) (pt : (Nat → Int)) (nn : Int) (od : Int) (li : (Nat → Int)) (st : (Nat → Int)) (H : Heap) (locs : List Loc) : Prop := va_K D vwCl (yT g) s ∧ va_P D vwCl (yw h g th pt nn od li st) H ∧ va_D A (yw h g th pt nn od li st) ∧ va_S A H0 H locs ∧ ∀ q, H0.size ≤ q → A q
abbrev ywu (h : Nat → Nat) (g : Nat → ClassId) (u : YS) : va_W := yw h g u.1 u.2.1 u.2.2.1 u.2.2.2.1 u.2.2.2.2.1 u.2.2.2.2.2
abbrev yAu (D : va_G) (h : Nat → Nat) (g : Nat → ClassId) (A : Nat → Prop) (s : State) (H0 : Heap) (u : YS) (H : Heap) (locs : List Loc) : Prop := yA D h g A s H0 u.1 u.2.1 u.2.2.1 u.2.2.2.1 u.2.2.2.2.1 u.2.2.2.2.2 H locs
def yWu (D : va_G) (h : Nat → Nat) (g : Nat → ClassId) (A : Nat → Prop) (u : YS) (t : State) : Prop := va_P D vwCl (ywu h g u) t.heap ∧ va_K D vwCl (yT g) t ∧ va_D A (ywu h g u)
section ROWSY
variable {p : Program} {l : Launch} {e : Env} {R : Room} {s : State} {m : MethodId} {args : Array Value} {below : List Frame} {meth : Method} {c : Code} {H : Heap} {locs : List Loc} {cells slots : Nat} {Q : State → Prop}
variable {cc : ByteArray} {pc nL : Nat} {ls : Array Slot} {rest : List Value} {own : String} {D : va_G} {h : Nat → Nat} {g : Nat → ClassId} {A : Nat → Prop} {H0 : Heap}
variable {th : (Nat → Int)} {pt : (Nat → Int)} {nn : Int} {od : Int} {li : (Nat → Int)} {st : (Nat → Int)}
theorem yg_th (S : CallFix p m c cc nL s args lw_all RX1) (w : yA D h g A s H0 th pt nn od li st H locs) (hd : decode cc pc = .ok (.getfield 7, 3)) (k : W p l e R s m args below meth c H locs cells slots Q (F0 m (pc + 3) ls (.ref (h 1) :: rest))) : W p l e R s m args below meth c H locs cells slots Q (F0 m pc ls (.ref (h 0) :: rest)) := va_get (D := D) (ci := 1) (v := .ref (h 1)) (C := RX1) (T := TX1) (N := 6) S.1 S.2.1 S.2.2.2.2 in_X1 S.2.2.2.1 w.1 w.2.1 0 rfl rfl 0 (by decide) (S.2.2.2.2 _ q191) (fun _ h9 => h9) rfl hd k
theorem yl_th (S : CallFix p m c cc nL s args lw_all RX1) (w : yA D h g A s H0 th pt nn od li st H locs) (j : Nat) {z : Int} (hz : z = (j : Int)) (hj : j < 6) (hd : decode cc pc = .ok (.baload, 1)) (k : W p l e R s m args below meth c H locs cells slots Q (F0 m (pc + 1) ls (.int (iI (th j)) :: rest))) : W p l e R s m args below meth c H locs cells slots Q (F0 m pc ls (.int (iI z) :: .ref (h 1) :: rest)) := by
  subst hz
  refine va_zald S.1 S.2.1 w.1 w.2.1 1 0 rfl rfl (iI_in hj (by decide)) hd ?_
  rw [iI_cl (by omega)]
  exact k
theorem ys_th (S : CallFix p m c cc nL s args lw_all RX1) (w : yA D h g A s H0 th pt nn od li st H locs) (j : Nat) {z v : Int} (hz : z = (j : Int)) (hj : j < 6) (hv : v = 0 ∨ v = 1) (hd : decode cc pc = .ok (.bastore, 1)) (k : ∀ H1 locs1, yA D h g A s H0 (updZ th j v) pt nn od li st H1 locs1 → W p l e R s m args below meth c H1 locs1 cells slots Q (F0 m (pc + 1) ls rest)) : W p l e R s m args below meth c H locs cells slots Q (F0 m pc ls (.int (iI v) :: .int (iI z) :: .ref (h 1) :: rest)) := by
  subst hz
  refine va_zast S.1 S.2.1 w.1 w.2.1 w.2.2.1 w.2.2.2.1 1 0 rfl rfl (iI_in hj (by decide)) hd (fun H1 locs1 hP hD hS => ?_)
  rw [iI_cl (by omega), nar_bool hv, zA_upd] at hP hD
  exact k H1 locs1 ⟨w.1, hP, hD, hS, w.2.2.2.2⟩
theorem yg_pt (S : CallFix p m c cc nL s args lw_all RX1) (w : yA D h g A s H0 th pt nn od li st H locs) (hd : decode cc pc = .ok (.getfield 13, 3)) (k : W p l e R s m args below meth c H locs cells slots Q (F0 m (pc + 3) ls (.ref (h 2) :: rest))) : W p l e R s m args below meth c H locs cells slots Q (F0 m pc ls (.ref (h 0) :: rest)) := va_get (D := D) (ci := 1) (v := .ref (h 2)) (C := RX1) (T := TX1) (N := 6) S.1 S.2.1 S.2.2.2.2 in_X1 S.2.2.2.1 w.1 w.2.1 0 rfl rfl 1 (by decide) (S.2.2.2.2 _ q192) (fun _ h9 => h9) rfl hd k
theorem yl_pt (S : CallFix p m c cc nL s args lw_all RX1) (w : yA D h g A s H0 th pt nn od li st H locs) (j : Nat) {z : Int} (hz : z = (j : Int)) (hj : j < 18) (hd : decode cc pc = .ok (.iaload, 1)) (k : W p l e R s m args below meth c H locs cells slots Q (F0 m (pc + 1) ls (.int (iI (pt j)) :: rest))) : W p l e R s m args below meth c H locs cells slots Q (F0 m pc ls (.int (iI z) :: .ref (h 2) :: rest)) := by
  subst hz
  refine va_iald S.1 S.2.1 w.1 w.2.1 2 1 rfl rfl (iI_in hj (by decide)) hd ?_
  rw [iI_cl (by omega)]
  exact k
theorem ys_pt (S : CallFix p m c cc nL s args lw_all RX1) (w : yA D h g A s H0 th pt nn od li st H locs) (j : Nat) {z v : Int} (hz : z = (j : Int)) (hj : j < 18) (hd : decode cc pc = .ok (.iastore, 1)) (k : ∀ H1 locs1, yA D h g A s H0 th (updZ pt j v) nn od li st H1 locs1 → W p l e R s m args below meth c H1 locs1 cells slots Q (F0 m (pc + 1) ls rest)) : W p l e R s m args below meth c H locs cells slots Q (F0 m pc ls (.int (iI v) :: .int (iI z) :: .ref (h 2) :: rest)) := by
  subst hz
  refine va_iast S.1 S.2.1 w.1 w.2.1 w.2.2.1 w.2.2.2.1 2 1 rfl rfl (iI_in hj (by decide)) hd (fun H1 locs1 hP hD hS => ?_)
  rw [iI_cl (by omega), zA_upd] at hP hD
  exact k H1 locs1 ⟨w.1, hP, hD, hS, w.2.2.2.2⟩
theorem yg_nn (S : CallFix p m c cc nL s args lw_all RX1) (w : yA D h g A s H0 th pt nn od li st H locs) (hd : decode cc pc = .ok (.getfield 35, 3)) (k : W p l e R s m args below meth c H locs cells slots Q (F0 m (pc + 3) ls (.int (iI nn) :: rest))) : W p l e R s m args below meth c H locs cells slots Q (F0 m pc ls (.ref (h 0) :: rest)) := va_get (D := D) (ci := 1) (v := .int (iI nn)) (C := RX1) (T := TX1) (N := 6) S.1 S.2.1 S.2.2.2.2 in_X1 S.2.2.2.1 w.1 w.2.1 0 rfl rfl 2 (by decide) (S.2.2.2.2 _ q193) (fun _ h9 => h9) rfl hd k
theorem yp_nn (S : CallFix p m c cc nL s args lw_all RX1) (w : yA D h g A s H0 th pt nn od li st H locs) {v : Int} (hd : decode cc pc = .ok (.putfield 35, 3)) (k : ∀ H1 locs1, yA D h g A s H0 th pt v od li st H1 locs1 → W p l e R s m args below meth c H1 locs1 cells slots Q (F0 m (pc + 3) ls rest)) : W p l e R s m args below meth c H locs cells slots Q (F0 m pc ls (.int (iI v) :: .ref (h 0) :: rest)) := by
  exact va_put (D := D) (ci := 1) (v := .int (iI v)) (ty := .int) (C := RX1) (T := TX1) (N := 6) S.1 S.2.1 S.2.2.2.2 in_X1 tyX1 tyX1_ok nmX1 S.2.2.2.1 w.1 w.2.1 w.2.2.1 w.2.2.2.1 0 rfl rfl 2 (by decide) (S.2.2.2.2 _ q193) (fun _ h9 => h9) rfl (by decide +kernel) rfl rfl (Nat.le_of_ble_eq_true rfl) hd (fun H1 locs1 hP hD hS => k H1 locs1 ⟨w.1, hP, hD, hS, w.2.2.2.2⟩)
theorem yg_od (S : CallFix p m c cc nL s args lw_all RX1) (w : yA D h g A s H0 th pt nn od li st H locs) (hd : decode cc pc = .ok (.getfield 39, 3)) (k : W p l e R s m args below meth c H locs cells slots Q (F0 m (pc + 3) ls (.int (iI od) :: rest))) : W p l e R s m args below meth c H locs cells slots Q (F0 m pc ls (.ref (h 0) :: rest)) := va_get (D := D) (ci := 1) (v := .int (iI od)) (C := RX1) (T := TX1) (N := 6) S.1 S.2.1 S.2.2.2.2 in_X1 S.2.2.2.1 w.1 w.2.1 0 rfl rfl 3 (by decide) (S.2.2.2.2 _ q194) (fun _ h9 => h9) rfl hd k
theorem yp_od (S : CallFix p m c cc nL s args lw_all RX1) (w : yA D h g A s H0 th pt nn od li st H locs) {v : Int} (hd : decode cc pc = .ok (.putfield 39, 3)) (k : ∀ H1 locs1, yA D h g A s H0 th pt nn v li st H1 locs1 → W p l e R s m args below meth c H1 locs1 cells slots Q (F0 m (pc + 3) ls rest)) : W p l e R s m args below meth c H locs cells slots Q (F0 m pc ls (.int (iI v) :: .ref (h 0) :: rest)) := by
  exact va_put (D := D) (ci := 1) (v := .int (iI v)) (ty := .int) (C := RX1) (T := TX1) (N := 6) S.1 S.2.1 S.2.2.2.2 in_X1 tyX1 tyX1_ok nmX1 S.2.2.2.1 w.1 w.2.1 w.2.2.1 w.2.2.2.1 0 rfl rfl 3 (by decide) (S.2.2.2.2 _ q194) (fun _ h9 => h9) rfl (by decide +kernel) rfl rfl (Nat.le_of_ble_eq_true rfl) hd (fun H1 locs1 hP hD hS => k H1 locs1 ⟨w.1, hP, hD, hS, w.2.2.2.2⟩)
theorem yg_li (S : CallFix p m c cc nL s args lw_all RX1) (w : yA D h g A s H0 th pt nn od li st H locs) (hd : decode cc pc = .ok (.getfield 17, 3)) (k : W p l e R s m args below meth c H locs cells slots Q (F0 m (pc + 3) ls (.ref (h 3) :: rest))) : W p l e R s m args below meth c H locs cells slots Q (F0 m pc ls (.ref (h 0) :: rest)) := va_get (D := D) (ci := 1) (v := .ref (h 3)) (C := RX1) (T := TX1) (N := 6) S.1 S.2.1 S.2.2.2.2 in_X1 S.2.2.2.1 w.1 w.2.1 0 rfl rfl 4 (by decide) (S.2.2.2.2 _ q195) (fun _ h9 => h9) rfl hd k
theorem yl_li (S : CallFix p m c cc nL s args lw_all RX1) (w : yA D h g A s H0 th pt nn od li st H locs) (j : Nat) {z : Int} (hz : z = (j : Int)) (hj : j < 6) (hd : decode cc pc = .ok (.iaload, 1)) (k : W p l e R s m args below meth c H locs cells slots Q (F0 m (pc + 1) ls (.int (iI (li j)) :: rest))) : W p l e R s m args below meth c H locs cells slots Q (F0 m pc ls (.int (iI z) :: .ref (h 3) :: rest)) := by
  subst hz
  refine va_iald S.1 S.2.1 w.1 w.2.1 3 2 rfl rfl (iI_in hj (by decide)) hd ?_
  rw [iI_cl (by omega)]
  exact k
theorem ys_li (S : CallFix p m c cc nL s args lw_all RX1) (w : yA D h g A s H0 th pt nn od li st H locs) (j : Nat) {z v : Int} (hz : z = (j : Int)) (hj : j < 6) (hd : decode cc pc = .ok (.iastore, 1)) (k : ∀ H1 locs1, yA D h g A s H0 th pt nn od (updZ li j v) st H1 locs1 → W p l e R s m args below meth c H1 locs1 cells slots Q (F0 m (pc + 1) ls rest)) : W p l e R s m args below meth c H locs cells slots Q (F0 m pc ls (.int (iI v) :: .int (iI z) :: .ref (h 3) :: rest)) := by
  subst hz
  refine va_iast S.1 S.2.1 w.1 w.2.1 w.2.2.1 w.2.2.2.1 3 2 rfl rfl (iI_in hj (by decide)) hd (fun H1 locs1 hP hD hS => ?_)
  rw [iI_cl (by omega), zA_upd] at hP hD
  exact k H1 locs1 ⟨w.1, hP, hD, hS, w.2.2.2.2⟩
theorem yg_st (S : CallFix p m c cc nL s args lw_all RX1) (w : yA D h g A s H0 th pt nn od li st H locs) (hd : decode cc pc = .ok (.getfield 20, 3)) (k : W p l e R s m args below meth c H locs cells slots Q (F0 m (pc + 3) ls (.ref (h 4) :: rest))) : W p l e R s m args below meth c H locs cells slots Q (F0 m pc ls (.ref (h 0) :: rest)) := va_get (D := D) (ci := 1) (v := .ref (h 4)) (C := RX1) (T := TX1) (N := 6) S.1 S.2.1 S.2.2.2.2 in_X1 S.2.2.2.1 w.1 w.2.1 0 rfl rfl 5 (by decide) (S.2.2.2.2 _ q196) (fun _ h9 => h9) rfl hd k
theorem yl_st (S : CallFix p m c cc nL s args lw_all RX1) (w : yA D h g A s H0 th pt nn od li st H locs) (j : Nat) {z : Int} (hz : z = (j : Int)) (hj : j < 6) (hd : decode cc pc = .ok (.iaload, 1)) (k : W p l e R s m args below meth c H locs cells slots Q (F0 m (pc + 1) ls (.int (iI (st j)) :: rest))) : W p l e R s m args below meth c H locs cells slots Q (F0 m pc ls (.int (iI z) :: .ref (h 4) :: rest)) := by
  subst hz
  refine va_iald S.1 S.2.1 w.1 w.2.1 4 3 rfl rfl (iI_in hj (by decide)) hd ?_
  rw [iI_cl (by omega)]
  exact k
theorem ys_st (S : CallFix p m c cc nL s args lw_all RX1) (w : yA D h g A s H0 th pt nn od li st H locs) (j : Nat) {z v : Int} (hz : z = (j : Int)) (hj : j < 6) (hd : decode cc pc = .ok (.iastore, 1)) (k : ∀ H1 locs1, yA D h g A s H0 th pt nn od li (updZ st j v) H1 locs1 → W p l e R s m args below meth c H1 locs1 cells slots Q (F0 m (pc + 1) ls rest)) : W p l e R s m args below meth c H locs cells slots Q (F0 m pc ls (.int (iI v) :: .int (iI z) :: .ref (h 4) :: rest)) := by
  subst hz
  refine va_iast S.1 S.2.1 w.1 w.2.1 w.2.2.1 w.2.2.2.1 4 3 rfl rfl (iI_in hj (by decide)) hd (fun H1 locs1 hP hD hS => ?_)
  rw [iI_cl (by omega), zA_upd] at hP hD
  exact k H1 locs1 ⟨w.1, hP, hD, hS, w.2.2.2.2⟩
end ROWSY
/-- a contract of a method that answers a number -/
def CYi (l : Launch) (y : MethodName) (cd : ByteArray) (L : Nat) (ret : Option FieldType) (fr lo : Nat) (as : List Value) (u0 : YS) {S : Type} (post : Int → S → Prop) (f : S → YS) : Prop := ∀ (D : va_G) (h : Nat → Nat) (g : Nat → ClassId) (sz : Nat), Met l y (ws_ y cd L ret) ({ frames := fr, cells := 0, slots := 0, locals := lo }) (va_Pc (.ref (h 0) :: as) (fun U => U.heap.size = sz ∧ yWu D h g (fun _ => True) u0 U)) (va_Qi (fun r u => ∃ z, r = iI z ∧ post z u) (fun u t => yWu D h g (va_A (ywu h g u0) sz) (f u) t) (va_A (ywu h g u0) sz)) 0 0 (va_A (ywu h g u0) sz)
/-- a contract of a method that answers nothing -/
def CYv (l : Launch) (y : MethodName) (cd : ByteArray) (L : Nat) (fr lo : Nat) (as : List Value) (u0 : YS) {S : Type} (post : S → Prop) (f : S → YS) : Prop := ∀ (D : va_G) (h : Nat → Nat) (g : Nat → ClassId) (sz : Nat), Met l y (ws_ y cd L none) ({ frames := fr, cells := 0, slots := 0, locals := lo }) (va_Pc (.ref (h 0) :: as) (fun U => U.heap.size = sz ∧ yWu D h g (fun _ => True) u0 U)) (va_Qv post (fun u t => yWu D h g (va_A (ywu h g u0) sz) (f u) t) (va_A (ywu h g u0) sz)) 0 0 (va_A (ywu h g u0) sz)
/-- the words of a call -/
def yF (own : String) (idx : Nat) (y : MethodName) (cd : ByteArray) (L : Nat) (ret : Option FieldType) (n : Nat) : Prop := Cond.methodLink own idx y ∈ lw_all ∧ Cond.instanceMethod y ∈ lw_all ∧ Cond.selects RX1 y y ∈ lw_all ∧ Cond.code y cd L ret ∈ lw_all ∧ (y.cls = RX1 ∧ y.cls ≠ "java/lang/invoke/MethodHandle" ∧ y.cls ≠ "java/lang/invoke/VarHandle" ∧ (parseMethodDescriptor y.desc).map (fun d => d.parameters.length) = some n)
theorem CYi.of {l : Launch} {y : MethodName} {cd : ByteArray} {L : Nat} {ret : Option FieldType} {fr lo : Nat} {as : List Value} {u0 : YS} {S : Type} {post : Int → S → Prop} {f : S → YS} (hy : plainName y.cls = true) (hcl : y.cls = RX1) (hL : ∀ h0, (lg_sl (.ref h0 :: as)).length ≤ L)
    (body : ∀ (p : Program) (e : Env) (s : State) (m : MethodId) (below : List Frame) (meth : Method) (c : Code) (D : va_G) (h : Nat → Nat) (g : Nat → ClassId) (A : Nat → Prop), CallFix p m c cd L s (.ref (h 0) :: as : List Value).toArray lw_all RX1 → meth.sig.returnType = ret → meth.locks = false → yAu D h g A s s.heap u0 s.heap [] → ∀ ls : Array Slot, lv_has ls L (lv_args 0 (.ref (h 0) :: as)) → W p l e ({ frames := fr, cells := 0, slots := 0, locals := lo }) s m (.ref (h 0) :: as : List Value).toArray below meth c s.heap [] 0 0 (MQ below (va_Qi (fun r u => ∃ z, r = iI z ∧ post z u) (fun u t => yWu D h g A (f u) t) A) (.ref (h 0) :: as : List Value).toArray s 0 0 A) (F0 m 0 ls [])) : CYi l y cd L ret fr lo as u0 post f := by
  intro D h g sz
  refine Met.ofW (cc := cd) (maxL := L) (ret := ret) hy rfl ?_
  intro p e s m args below meth c s₁ B hml hv
  obtain ⟨rfl, hsz, hP, hK, hD0⟩ := hv
  have hts := atoms_spec (ws := ws_ y cd L ret) B.pre
  have hts : ∀ w ∈ lw_all, w.before _ s = true := fun w h => hts w (List.mem_cons_of_mem _ h)
  have hown : s.vm.findClass RX1 = some m.cls := by
    have h1 := findClass_of_methodNamed B.named
    rw [hcl] at h1
    exact h1
  subst hsz
  have hl := lv_entry (.ref (h 0) :: as) (n := L) (hL (h 0))
  rw [lg_entry_eq]
  generalize (lg_sl (.ref (h 0) :: as) ++ List.replicate (L - (lg_sl (.ref (h 0) :: as)).length) Slot.unset).toArray = ls at hl ⊢
  exact body p e s m below meth c D h g (va_A (ywu h g u0) s.heap.size) ⟨B.exec, B.bytes, hml, hown, hts⟩ B.returns B.notSynchronized ⟨hK, hP, hD0.self, va_S.rf, fun q hq => Or.inr hq⟩ ls hl
theorem CYv.of {l : Launch} {y : MethodName} {cd : ByteArray} {L : Nat} {fr lo : Nat} {as : List Value} {u0 : YS} {S : Type} {post : S → Prop} {f : S → YS} (hy : plainName y.cls = true) (hcl : y.cls = RX1) (hL : ∀ h0, (lg_sl (.ref h0 :: as)).length ≤ L)
    (body : ∀ (p : Program) (e : Env) (s : State) (m : MethodId) (below : List Frame) (meth : Method) (c : Code) (D : va_G) (h : Nat → Nat) (g : Nat → ClassId) (A : Nat → Prop), CallFix p m c cd L s (.ref (h 0) :: as : List Value).toArray lw_all RX1 → meth.sig.returnType = none → meth.locks = false → yAu D h g A s s.heap u0 s.heap [] → ∀ ls : Array Slot, lv_has ls L (lv_args 0 (.ref (h 0) :: as)) → W p l e ({ frames := fr, cells := 0, slots := 0, locals := lo }) s m (.ref (h 0) :: as : List Value).toArray below meth c s.heap [] 0 0 (MQ below (va_Qv post (fun u t => yWu D h g A (f u) t) A) (.ref (h 0) :: as : List Value).toArray s 0 0 A) (F0 m 0 ls [])) : CYv l y cd L fr lo as u0 post f := by
  intro D h g sz
  refine Met.ofW (cc := cd) (maxL := L) (ret := none) hy rfl ?_
  intro p e s m args below meth c s₁ B hml hv
  obtain ⟨rfl, hsz, hP, hK, hD0⟩ := hv
  have hts := atoms_spec (ws := ws_ y cd L none) B.pre
  have hts : ∀ w ∈ lw_all, w.before _ s = true := fun w h => hts w (List.mem_cons_of_mem _ h)
  have hown : s.vm.findClass RX1 = some m.cls := by
    have h1 := findClass_of_methodNamed B.named
    rw [hcl] at h1
    exact h1
  subst hsz
  have hl := lv_entry (.ref (h 0) :: as) (n := L) (hL (h 0))
  rw [lg_entry_eq]
  generalize (lg_sl (.ref (h 0) :: as) ++ List.replicate (L - (lg_sl (.ref (h 0) :: as)).length) Slot.unset).toArray = ls at hl ⊢
  exact body p e s m below meth c D h g (va_A (ywu h g u0) s.heap.size) ⟨B.exec, B.bytes, hml, hown, hts⟩ B.returns B.notSynchronized ⟨hK, hP, hD0.self, va_S.rf, fun q hq => Or.inr hq⟩ ls hl
section RETSY
variable {p : Program} {l : Launch} {e : Env} {R : Room} {s : State} {m : MethodId} {args : Array Value} {below : List Frame} {meth : Method} {c : Code} {H : Heap} {locs : List Loc} {cells slots : Nat} {Q : State → Prop}
variable {cc : ByteArray} {pc nL : Nat} {ls : Array Slot} {rest : List Value} {own : String} {D : va_G} {h : Nat → Nat} {g : Nat → ClassId} {A : Nat → Prop} {H0 : Heap}

theorem yreti {A : Nat → Prop} {S : Type} {post : Int → S → Prop} {f : S → YS} {ty : FieldType} {z : Int} (u : S) (S' : CallFix p m c cc nL s args lw_all own) (hr : meth.sig.returnType = some ty) (hn : narrow ty (.int (iI z)) = .int (iI z)) (hlk : meth.locks = false) (w : yAu D h g A s s.heap (f u) H locs) (hp : post z u) (hd : decode cc pc = .ok (.ireturn, 1)) : W p l e R s m args below meth c H locs cells slots (MQ below (va_Qi (fun r u => ∃ z, r = iI z ∧ post z u) (fun u t => yWu D h g A (f u) t) A) args s cells slots A) (F0 m pc ls [.int (iI z)]) :=
  W.zret S'.1 S'.2.1 hr hn (fun t ht hW => ⟨⟨iI z, u, rfl, ⟨z, rfl, hp⟩, by rw [ht]; exact w.2.1, va_K.moved hW.alike w.1, w.2.2.1⟩, w.2.2.2.1.F ht⟩) w.2.2.2.1.2.2 hd hlk
theorem yretv {A : Nat → Prop} {S : Type} {post : S → Prop} {f : S → YS} (u : S) (S' : CallFix p m c cc nL s args lw_all own) (hr : meth.sig.returnType = none) (hlk : meth.locks = false) (w : yAu D h g A s s.heap (f u) H locs) (hp : post u) (hd : decode cc pc = .ok (.return_, 1)) : W p l e R s m args below meth c H locs cells slots (MQ below (va_Qv post (fun u t => yWu D h g A (f u) t) A) args s cells slots A) (F0 m pc ls []) :=
  W.vret S'.1 S'.2.1 hr (fun t ht hW => ⟨⟨u, rfl, hp, by rw [ht]; exact w.2.1, va_K.moved hW.alike w.1, w.2.2.1⟩, w.2.2.2.1.F ht⟩) w.2.2.2.1.2.2 hd hlk
variable {y : MethodName} {cd : ByteArray} {L fr lo n idx : Nat} {ret : Option FieldType} {as st : List Value} {u0 : YS} {S : Type} {f : S → YS}
theorem ycalli {post : Int → S → Prop} (rest : List Value) (S' : CallFix p m c cc nL s args lw_all own) (w : yAu D h g A s H0 u0 H locs) (F : yF own idx y cd L ret n) (hM : CYi l y cd L ret fr lo as u0 post f) (hn : as.length = n) (hR : fr + 1 ≤ R.frames ∧ 8 + (L + 11) + lo ≤ R.locals) (hsz : ls.size = nL) (hcat : (rest.map fun v => v.category).sum ≤ 8) (hst : st = as.reverse ++ .ref (h 0) :: rest) (hc : cells ≤ R.cells ∧ slots ≤ R.slots) (hd : decode cc pc = .ok (.invokevirtual idx, 3)) (k : ∀ (z : Int) (u : S) (H1 : Heap) (locs1 : List Loc), post z u → yAu D h g A s H0 (f u) H1 locs1 → W p l e R s m args below meth c H1 locs1 cells slots Q (F0 m (pc + 3) ls (.int (iI z) :: rest))) : W p l e R s m args below meth c H locs cells slots Q (F0 m pc ls st) := by
  subst hst
  obtain ⟨hK, hP, hD, hS, hA⟩ := w
  have hFc : ∀ q, va_A (ywu h g u0) H.size q → A q := va_free (wc := ywu h g u0) hD hS hA [0, 1, 2, 3, 4] rfl
  refine va_calli (va_runV (As := as) (rest := rest) S' (hM D h g H.size) (cwV n S'.2.2.2.2 (lw_V F.1 F.2.1 F.2.2.1 q27 F.2.2.2.1) rfl rfl rfl F.2.2.2.2 hR) ⟨fun a U g mk q => by obtain ⟨q0, q1, qP, qK, qD⟩ := q; exact ⟨q0, q1, qP, va_K.moved (u := U) (U := U.calling g mk a) (Vm.Alike.refl U.vm) qK, qD⟩, va_recv hK hP (ci := 1) (q0 := 0) rfl rfl, fun U hU hW => ⟨rfl, by rw [hU], by rw [hU]; exact hP, va_K.moved hW.alike hK, hD.weaken (fun _ _ _ _ => trivial)⟩⟩ rfl hn hsz rfl (lv_room hcat) hd hc) hS (fun q _ h => hFc q h) hFc (fun r u t H1 locs1 ht hvm hp hB hz hk1 hS1 => ?_)
  obtain ⟨z, rfl, hp⟩ := hp
  obtain ⟨hP1, hK1, hD1⟩ := hB
  rw [ht] at hP1
  exact k z u H1 locs1 hp ⟨va_K.moved hvm.symm hK1, hP1, hD1.weaken (fun k q _ h => hFc q.1 h), hS1, hA⟩
theorem ycallv {post : S → Prop} (rest : List Value) (S' : CallFix p m c cc nL s args lw_all own) (w : yAu D h g A s H0 u0 H locs) (F : yF own idx y cd L none n) (hM : CYv l y cd L fr lo as u0 post f) (hn : as.length = n) (hR : fr + 1 ≤ R.frames ∧ 8 + (L + 11) + lo ≤ R.locals) (hsz : ls.size = nL) (hcat : (rest.map fun v => v.category).sum ≤ 8) (hst : st = as.reverse ++ .ref (h 0) :: rest) (hc : cells ≤ R.cells ∧ slots ≤ R.slots) (hd : decode cc pc = .ok (.invokevirtual idx, 3)) (k : ∀ (u : S) (H1 : Heap) (locs1 : List Loc), post u → yAu D h g A s H0 (f u) H1 locs1 → W p l e R s m args below meth c H1 locs1 cells slots Q (F0 m (pc + 3) ls rest)) : W p l e R s m args below meth c H locs cells slots Q (F0 m pc ls st) := by
  subst hst
  obtain ⟨hK, hP, hD, hS, hA⟩ := w
  have hFc : ∀ q, va_A (ywu h g u0) H.size q → A q := va_free (wc := ywu h g u0) hD hS hA [0, 1, 2, 3, 4] rfl
  refine va_callv (va_runV (As := as) (rest := rest) S' (hM D h g H.size) (cwV n S'.2.2.2.2 (lw_V F.1 F.2.1 F.2.2.1 q27 F.2.2.2.1) rfl rfl rfl F.2.2.2.2 hR) ⟨fun a U g mk q => by obtain ⟨q0, q1, qP, qK, qD⟩ := q; exact ⟨q0, q1, qP, va_K.moved (u := U) (U := U.calling g mk a) (Vm.Alike.refl U.vm) qK, qD⟩, va_recv hK hP (ci := 1) (q0 := 0) rfl rfl, fun U hU hW => ⟨rfl, by rw [hU], by rw [hU]; exact hP, va_K.moved hW.alike hK, hD.weaken (fun _ _ _ _ => trivial)⟩⟩ rfl hn hsz rfl (lv_room hcat) hd hc) hS (fun q _ h => hFc q h) hFc (fun u t H1 locs1 ht hvm hp hB hz hk1 hS1 => ?_)
  obtain ⟨hP1, hK1, hD1⟩ := hB
  rw [ht] at hP1
  exact k u H1 locs1 hp ⟨va_K.moved hvm.symm hK1, hP1, hD1.weaken (fun k q _ h => hFc q.1 h), hS1, hA⟩
end RETSY
end
section
/-! the words of each call -/
set_option maxRecDepth 100000
theorem fX_begin : xF RX0 83 yX0_begin cX0_begin 1 none 0 := ⟨q112, q114, qs3, q115, by decide +kernel⟩
theorem fX_boundFor : xF RX0 76 yX0_boundFor cX0_boundFor 4 (some .int) 2 := ⟨q133, q135, qs8, q136, by decide +kernel⟩
theorem fX_count : xF RX0 63 yX0_count cX0_count 3 (some .int) 0 := ⟨q120, q122, qs5, q123, by decide +kernel⟩
theorem fX_firstFitting : xF RX0 93 yX0_firstFitting cX0_firstFitting 5 (some .int) 2 := ⟨q149, q151, qs12, q152, by decide +kernel⟩
theorem fX_has : xF RX0 48 yX0_has cX0_has 2 (some .boolean) 1 := ⟨q80, q82, qs0, q83, by decide +kernel⟩
theorem fX_interruptedLength : xF RX0 80 yX0_interruptedLength cX0_interruptedLength 10 (some .int) 2 := ⟨q137, q139, qs9, q140, by decide +kernel⟩
theorem fX_learn : xF RX0 96 yX0_learn cX0_learn 5 none 0 := ⟨q108, q110, qs2, q111, by decide +kernel⟩
theorem fX_mostUrgent : xF RX0 60 yX0_mostUrgent cX0_mostUrgent 4 (some .int) 1 := ⟨q145, q147, qs11, q148, by decide +kernel⟩
theorem fX_nextJob : xF RX0 68 yX0_nextJob cX0_nextJob 7 (some .int) 4 := ⟨q125, q127, qs6, q128, by decide +kernel⟩
theorem fX_nextRelease : xF RX0 56 yX0_nextRelease cX0_nextRelease 4 (some .int) 1 := ⟨q141, q143, qs10, q144, by decide +kernel⟩
theorem fX_place : xF RX0 72 yX0_place cX0_place 6 none 2 := ⟨q129, q131, qs7, q132, by decide +kernel⟩
theorem fX_plainLeast : xF RX0 99 yX0_plainLeast cX0_plainLeast 1 (some .int) 0 := ⟨q177, q179, qs13, q180, by decide +kernel⟩
theorem fX_put : xF RX0 52 yX0_put cX0_put 5 none 4 := ⟨q84, q86, qs1, q87, by decide +kernel⟩
theorem fX_search : xF RX0 86 yX0_search cX0_search 12 (some .int) 3 := ⟨q116, q118, qs4, q119, by decide +kernel⟩
theorem fX_add_L : xF "HeadTailLaw" 13 yX0_add cX0_add 5 (some .int) 3 := ⟨q73, q74, q75, q76, by decide +kernel⟩
theorem fX_begins_L : xF "HeadTailLaw" 47 yX0_begins cX0_begins 3 (some .int) 1 := ⟨q157, q158, q159, q160, by decide +kernel⟩
theorem fX_bestAt_L : xF "HeadTailLaw" 42 yX0_bestAt cX0_bestAt 2 (some .int) 1 := ⟨q153, q154, q155, q156, by decide +kernel⟩
theorem fX_change_L : xF "HeadTailLaw" 23 yX0_change cX0_change 5 (some .boolean) 4 := ⟨q92, q93, q94, q95, by decide +kernel⟩
theorem fX_interrupted_L : xF "HeadTailLaw" 59 yX0_interrupted cX0_interrupted 1 (some .int) 0 := ⟨q169, q170, q171, q172, by decide +kernel⟩
theorem fX_jobs_L : xF "HeadTailLaw" 28 yX0_jobs cX0_jobs 1 (some .int) 0 := ⟨q96, q97, q98, q99, by decide +kernel⟩
theorem fX_least_L : xF "HeadTailLaw" 38 yX0_least cX0_least 1 (some .int) 0 := ⟨q104, q105, q106, q107, by decide +kernel⟩
theorem fX_leastFirst_L : xF "HeadTailLaw" 55 yX0_leastFirst cX0_leastFirst 2 (some .int) 1 := ⟨q165, q166, q167, q168, by decide +kernel⟩
theorem fX_leastWith_L : xF "HeadTailLaw" 51 yX0_leastWith cX0_leastWith 3 (some .int) 2 := ⟨q161, q162, q163, q164, by decide +kernel⟩
theorem fX_part_L : xF "HeadTailLaw" 33 yX0_part cX0_part 3 (some .int) 2 := ⟨q100, q101, q102, q103, by decide +kernel⟩
theorem fX_releaseFor_L : xF "HeadTailLaw" 67 yX0_releaseFor cX0_releaseFor 8 (some .int) 2 := ⟨q181, q182, q183, q184, by decide +kernel⟩
theorem fX_remove_L : xF "HeadTailLaw" 18 yX0_remove cX0_remove 2 (some .boolean) 1 := ⟨q88, q89, q90, q91, by decide +kernel⟩
theorem fX_tailFor_L : xF "HeadTailLaw" 63 yX0_tailFor cX0_tailFor 8 (some .int) 2 := ⟨q173, q174, q175, q176, by decide +kernel⟩
theorem fY_add_L : yF "HeadTailLaw" 17 yX1_add cX1_add 5 (some .int) 3 := ⟨q211, q212, q213, q214, by decide +kernel⟩
theorem fY_begins_L : yF "HeadTailLaw" 50 yX1_begins cX1_begins 2 (some .int) 1 := ⟨q277, q278, q279, q280, by decide +kernel⟩
theorem fY_bestAt_L : yF "HeadTailLaw" 46 yX1_bestAt cX1_bestAt 2 (some .int) 1 := ⟨q269, q270, q271, q272, by decide +kernel⟩
theorem fY_change_L : yF "HeadTailLaw" 27 yX1_change cX1_change 5 (some .boolean) 4 := ⟨q231, q232, q233, q234, by decide +kernel⟩
theorem fY_interrupted_L : yF "HeadTailLaw" 62 yX1_interrupted cX1_interrupted 4 (some .int) 0 := ⟨q289, q290, q291, q292, by decide +kernel⟩
theorem fY_jobs_L : yF "HeadTailLaw" 32 yX1_jobs cX1_jobs 3 (some .int) 0 := ⟨q235, q236, q237, q238, by decide +kernel⟩
theorem fY_least_L : yF "HeadTailLaw" 41 yX1_least cX1_least 1 (some .int) 0 := ⟨q243, q244, q245, q246, by decide +kernel⟩
theorem fY_leastFirst_L : yF "HeadTailLaw" 58 yX1_leastFirst cX1_leastFirst 5 (some .int) 1 := ⟨q285, q286, q287, q288, by decide +kernel⟩
theorem fY_leastWith_L : yF "HeadTailLaw" 54 yX1_leastWith cX1_leastWith 3 (some .int) 2 := ⟨q281, q282, q283, q284, by decide +kernel⟩
theorem fY_part_L : yF "HeadTailLaw" 37 yX1_part cX1_part 3 (some .int) 2 := ⟨q239, q240, q241, q242, by decide +kernel⟩
theorem fY_releaseFor_L : yF "HeadTailLaw" 70 yX1_releaseFor cX1_releaseFor 3 (some .int) 2 := ⟨q305, q306, q307, q308, by decide +kernel⟩
theorem fY_remove_L : yF "HeadTailLaw" 22 yX1_remove cX1_remove 2 (some .boolean) 1 := ⟨q223, q224, q225, q226, by decide +kernel⟩
theorem fY_tailFor_L : yF "HeadTailLaw" 66 yX1_tailFor cX1_tailFor 3 (some .int) 2 := ⟨q297, q298, q299, q300, by decide +kernel⟩
theorem fY_best : yF RX1 64 yX1_best cX1_best 3 none 0 := ⟨q273, q275, qs22, q276, by decide +kernel⟩
theorem fY_bound : yF RX1 67 yX1_bound cX1_bound 6 (some .int) 1 := ⟨q293, q295, qs23, q296, by decide +kernel⟩
theorem fY_count : yF RX1 50 yX1_count cX1_count 2 none 0 := ⟨q251, q253, qs18, q254, by decide +kernel⟩
theorem fY_good : yF RX1 23 yX1_good cX1_good 4 (some .boolean) 3 := ⟨q215, q217, qs14, q218, by decide +kernel⟩
theorem fY_greatest : yF RX1 70 yX1_greatest cX1_greatest 8 (some .int) 3 := ⟨q301, q303, qs24, q304, by decide +kernel⟩
theorem fY_hold : yF RX1 27 yX1_hold cX1_hold 5 none 4 := ⟨q219, q221, qs15, q222, by decide +kernel⟩
theorem fY_is : yF RX1 31 yX1_is cX1_is 2 (some .boolean) 1 := ⟨q227, q229, qs16, q230, by decide +kernel⟩
theorem fY_jobs : yF RX1 42 yX1_jobs cX1_jobs 3 (some .int) 0 := ⟨q260, q236, q237, q238, by decide +kernel⟩
theorem fY_leastOf : yF RX1 61 yX1_leastOf cX1_leastOf 6 (some .int) 2 := ⟨q247, q249, qs17, q250, by decide +kernel⟩
theorem fY_nth : yF RX1 46 yX1_nth cX1_nth 5 (some .int) 2 := ⟨q261, q263, qs20, q264, by decide +kernel⟩
theorem fY_place : yF RX1 58 yX1_place cX1_place 4 (some .int) 1 := ⟨q265, q267, qs21, q268, by decide +kernel⟩
theorem fY_spell : yF RX1 54 yX1_spell cX1_spell 10 (some .int) 1 := ⟨q256, q258, qs19, q259, by decide +kernel⟩
end
section
/-! small words of the contracts; static calls -/
set_option maxRecDepth 100000
theorem bz_n0 {M j : Nat} (h : ¬ bz M j = 0) : M.testBit j = true := by
  have := bz_0 (M := M) (j := j)
  cases hb : M.testBit j
  · exact absurd (this.mpr hb) h
  · rfl
theorem bz_n1 {M j : Nat} (h : ¬ bz M j = 1) : M.testBit j = false := by
  have := bz_1 (M := M) (j := j)
  cases hb : M.testBit j
  · rfl
  · exact absurd (this.mpr hb) h
/-- z says whether j is a job of P -/
def hasIs (P : Nat) (j z : Int) : Prop := (z = 1 ∧ ∃ k : Nat, j = (k : Int) ∧ k < 6 ∧ P.testBit k = true) ∨ (z = 0 ∧ ∀ k : Nat, j = (k : Int) → k < 6 → P.testBit k = false)
def numOk (r q t : Int) : Prop := 0 ≤ r ∧ r ≤ 40 ∧ 1 ≤ q ∧ q ≤ 12 ∧ 0 ≤ t ∧ t ≤ 40
def numIs (r q t z : Int) : Prop := (z = 1 ∧ numOk r q t) ∨ (z = 0 ∧ ¬ numOk r q t)
/-- a static method that answers a number, and touches nothing -/
def CSi (l : Launch) (y : MethodName) (cd : ByteArray) (L : Nat) (ret : Option FieldType) (as : List Value) (post : Int → Prop) : Prop := ∀ (sz : Nat), Met l y (ws_ y cd L ret) ({ frames := 0, cells := 0, slots := 0, locals := 0 }) (va_Pc as (fun U => U.heap.size = sz)) (va_Qi (fun r (_ : Unit) => ∃ z, r = iI z ∧ post z) (fun _ _ => True) (fun q => sz ≤ q)) 0 0 (fun q => sz ≤ q)
theorem CSi.of {l : Launch} {y : MethodName} {cd : ByteArray} {L : Nat} {ret : Option FieldType} {as : List Value} {post : Int → Prop} (hy : plainName y.cls = true) (hcl : y.cls = RX0) (hL : (lg_sl as).length ≤ L)
    (body : ∀ (p : Program) (e : Env) (s : State) (m : MethodId) (below : List Frame) (meth : Method) (c : Code), CallFix p m c cd L s as.toArray lw_all RX0 → meth.sig.returnType = ret → meth.locks = false → ∀ ls : Array Slot, lv_has ls L (lv_args 0 as) → W p l e ({ frames := 0, cells := 0, slots := 0, locals := 0 }) s m as.toArray below meth c s.heap [] 0 0 (MQ below (va_Qi (fun r (_ : Unit) => ∃ z, r = iI z ∧ post z) (fun _ _ => True) (fun q => s.heap.size ≤ q)) as.toArray s 0 0 (fun q => s.heap.size ≤ q)) (F0 m 0 ls [])) : CSi l y cd L ret as post := by
  intro sz
  refine Met.ofW (cc := cd) (maxL := L) (ret := ret) hy rfl ?_
  intro p e s m args below meth c s₁ B hml hv
  obtain ⟨rfl, hsz⟩ := hv
  have hts := atoms_spec (ws := ws_ y cd L ret) B.pre
  have hts : ∀ w ∈ lw_all, w.before _ s = true := fun w h => hts w (List.mem_cons_of_mem _ h)
  have hown : s.vm.findClass RX0 = some m.cls := by
    have h1 := findClass_of_methodNamed B.named
    rw [hcl] at h1
    exact h1
  subst hsz
  have hl := lv_entry as (n := L) hL
  rw [lg_entry_eq]
  generalize (lg_sl as ++ List.replicate (L - (lg_sl as).length) Slot.unset).toArray = ls at hl ⊢
  exact body p e s m below meth c ⟨B.exec, B.bytes, hml, hown, hts⟩ B.returns B.notSynchronized ls hl
section STAT
variable {p : Program} {l : Launch} {e : Env} {R : Room} {s : State} {m : MethodId} {args : Array Value} {below : List Frame} {meth : Method} {c : Code} {H : Heap} {locs : List Loc} {cells slots : Nat} {Q : State → Prop}
variable {cc : ByteArray} {pc nL : Nat} {ls : Array Slot} {rest : List Value} {own : String} {D : va_G} {h : Nat → Nat} {g : Nat → ClassId} {A : Nat → Prop} {H0 : Heap}
theorem sreti {post : Int → Prop} {ty : FieldType} {z : Int} (S' : CallFix p m c cc nL s args lw_all own) (hr : meth.sig.returnType = some ty) (hn : narrow ty (.int (iI z)) = .int (iI z)) (hlk : meth.locks = false) (hp : post z) (hd : decode cc pc = .ok (.ireturn, 1)) : W p l e R s m args below meth c s.heap [] cells slots (MQ below (va_Qi (fun r (_ : Unit) => ∃ z, r = iI z ∧ post z) (fun _ _ => True) (fun q => s.heap.size ≤ q)) args s cells slots (fun q => s.heap.size ≤ q)) (F0 m pc ls [.int (iI z)]) :=
  W.zret S'.1 S'.2.1 hr hn (fun t ht hW => ⟨⟨iI z, (), rfl, ⟨z, rfl, hp⟩, trivial⟩, by rw [ht]; exact Nat.le_refl _, fun q _ _ => by rw [ht]⟩) (fun q h => by cases h) hd hlk
theorem xcalls {y : MethodName} {cd : ByteArray} {L n idx : Nat} {ret : Option FieldType} {as st : List Value} {u0 : XS} {post : Int → Prop} (rest : List Value) (S' : CallFix p m c cc nL s args lw_all own) (w : xAu D h g A s H0 u0 H locs) (F1 : Cond.methodLink own idx y ∈ lw_all) (F2 : Cond.static y ∈ lw_all) (F3 : Cond.initialized y.cls ∈ lw_all) (F4 : Cond.code y cd L ret ∈ lw_all) (F5 : y.cls ≠ "java/lang/invoke/MethodHandle" ∧ y.cls ≠ "java/lang/invoke/VarHandle" ∧ (parseMethodDescriptor y.desc).map (fun d => d.parameters.length) = some n) (hM : CSi l y cd L ret as post) (hn : as.length = n) (hR : 0 + 1 ≤ R.frames ∧ 8 + (L + 11) + 0 ≤ R.locals) (hsz : ls.size = nL) (hcat : (rest.map fun v => v.category).sum ≤ 8) (hst : st = as.reverse ++ rest) (hc : cells ≤ R.cells ∧ slots ≤ R.slots) (hd : decode cc pc = .ok (.invokestatic idx, 3)) (k : ∀ (z : Int) (H1 : Heap) (locs1 : List Loc), post z → xAu D h g A s H0 u0 H1 locs1 → W p l e R s m args below meth c H1 locs1 cells slots Q (F0 m (pc + 3) ls (.int (iI z) :: rest))) : W p l e R s m args below meth c H locs cells slots Q (F0 m pc ls st) := by
  subst hst
  obtain ⟨hK, hP, hD, hS, hA⟩ := w
  have hFc : ∀ q, H.size ≤ q → A q := fun q h => hA q (Nat.le_trans hS.1 h)
  refine va_calli (va_runS (As := as) (rest := rest) S' (hM H.size) (va_cwS n S'.2.2.2.2 (lw_S F1 F2 F3 F4) rfl rfl rfl F5 hR) ⟨fun a U g mk q => q, fun U hU hW => ⟨rfl, congrArg Array.size hU⟩⟩ rfl hn hsz rfl (lv_room hcat) hd hc) hS (fun q _ h => hFc q h) hFc (fun r u t H1 locs1 ht hvm hp hB hz hk1 hS1 => ?_)
  obtain ⟨z, rfl, hp⟩ := hp
  exact k z H1 locs1 hp ⟨hK, hP.kept (fun k x hx => hk1 x.1 ((hP k x hx).lt) (Nat.not_le.mpr (hP k x hx).lt)), hD, hS1, hA⟩
end STAT
end
section
/-! the next release, the most urgent job: what their loops come to; the plan's loop -/
def nrIs (rel lf : Nat → Int) (t : Int) (k : Nat) (z : Int) : Prop := (z = -1 ∧ ∀ i, i < k → 0 < lf i → rel i ≤ t) ∨ (0 ≤ z ∧ t < z ∧ (∃ i, i < k ∧ 0 < lf i ∧ rel i = z) ∧ ∀ i, i < k → 0 < lf i → t < rel i → z ≤ rel i)
theorem nr_skip {rel lf : Nat → Int} {t z : Int} {k : Nat} (h : nrIs rel lf t k z) (hk : lf k ≤ 0 ∨ rel k ≤ t ∨ (0 ≤ z ∧ z ≤ rel k)) : nrIs rel lf t (k + 1) z := by
  rcases h with ⟨h1, h2⟩ | ⟨h0, h1, ⟨i, i1, i2, i3⟩, h3⟩
  · refine Or.inl ⟨h1, fun i hi hl => ?_⟩
    by_cases e : i = k
    · subst e; omega
    · exact h2 i (by omega) hl
  · refine Or.inr ⟨h0, h1, ⟨i, by omega, i2, i3⟩, fun i hi hl ht => ?_⟩
    by_cases e : i = k
    · subst e; omega
    · exact h3 i (by omega) hl ht
theorem nr_take {rel lf : Nat → Int} {t z : Int} {k : Nat} (h : nrIs rel lf t k z) (h0 : 0 ≤ rel k) (h1 : 0 < lf k) (h2 : t < rel k) (h3 : z < 0 ∨ rel k < z) : nrIs rel lf t (k + 1) (rel k) := by
  refine Or.inr ⟨h0, h2, ⟨k, by omega, h1, rfl⟩, fun i hi hl ht => ?_⟩
  by_cases e : i = k
  · subst e; exact Int.le_refl _
  · rcases h with ⟨g1, g2⟩ | ⟨g0, g1, -, g3⟩
    · have := g2 i (by omega) hl
      omega
    · have := g3 i (by omega) hl ht
      omega
def muIs (rel tl lf : Nat → Int) (t : Int) (k : Nat) (z : Int) : Prop := (z = -1 ∧ ∀ i, i < k → 0 < lf i → t < rel i) ∨ (∃ j : Nat, z = (j : Int) ∧ j < k ∧ 0 < lf j ∧ rel j ≤ t ∧ ∀ i, i < k → 0 < lf i → rel i ≤ t → tl i ≤ tl j)
theorem mu_nat {rel tl lf : Nat → Int} {t z : Int} {k : Nat} (h : muIs rel tl lf t k z) (hz : 0 ≤ z) : ∃ j : Nat, z = (j : Int) ∧ j < k := by
  rcases h with ⟨h1, -⟩ | ⟨j, h1, h2, -⟩
  · omega
  · exact ⟨j, h1, h2⟩
theorem mu_skip {rel tl lf : Nat → Int} {t z : Int} {k : Nat} (h : muIs rel tl lf t k z) (hk : lf k ≤ 0 ∨ t < rel k ∨ ∃ j : Nat, z = (j : Int) ∧ tl k ≤ tl j) : muIs rel tl lf t (k + 1) z := by
  rcases h with ⟨h1, h2⟩ | ⟨j, h1, h2, h3, h4, h5⟩
  · refine Or.inl ⟨h1, fun i hi hl => ?_⟩
    by_cases e : i = k
    · subst e
      rcases hk with q | q | ⟨j, q, -⟩
      · omega
      · exact q
      · omega
    · exact h2 i (by omega) hl
  · refine Or.inr ⟨j, h1, by omega, h3, h4, fun i hi hl hr => ?_⟩
    by_cases e : i = k
    · subst e
      rcases hk with q | q | ⟨j', q, q2⟩
      · omega
      · omega
      · have : j' = j := by omega
        subst this
        exact q2
    · exact h5 i (by omega) hl hr
theorem mu_take {rel tl lf : Nat → Int} {t z : Int} {k : Nat} (h : muIs rel tl lf t k z) (h1 : 0 < lf k) (h2 : rel k ≤ t) (h3 : z < 0 ∨ ∃ j : Nat, z = (j : Int) ∧ tl j < tl k) : muIs rel tl lf t (k + 1) (k : Int) := by
  refine Or.inr ⟨k, rfl, by omega, h1, h2, fun i hi hl hr => ?_⟩
  by_cases e : i = k
  · subst e; exact Int.le_refl _
  · rcases h with ⟨g1, g2⟩ | ⟨j, g1, g2, g3, g4, g5⟩
    · have := g2 i (by omega) hl
      omega
    · have h5 := g5 i (by omega) hl hr
      rcases h3 with q | ⟨j', q, q2⟩
      · omega
      · have : j' = j := by omega
        subst this
        omega
/-- what is left, when the first k jobs have been looked at -/
def lfi (len lf : Nat → Int) (M k : Nat) : Nat → Int := fun j => if j < k then (if M.testBit j = true then len j else 0) else lf j
theorem lfi_0 (len lf : Nat → Int) (M : Nat) : lfi len lf M 0 = lf := funext fun j => if_neg (by omega)
theorem lfi_t {len lf : Nat → Int} {M k : Nat} (h : M.testBit k = true) : updZ (lfi len lf M k) k (len k) = lfi len lf M (k + 1) := by
  funext j
  unfold lfi
  by_cases e : j = k
  · subst e; rw [updZ_s, if_pos (by omega), if_pos h]
  · rw [updZ_n e]
    by_cases q : j < k
    · rw [if_pos q, if_pos (show j < k + 1 by omega)]
    · rw [if_neg q, if_neg (show ¬ j < k + 1 by omega)]
theorem lfi_f {len lf : Nat → Int} {M k : Nat} (h : M.testBit k = false) : updZ (lfi len lf M k) k 0 = lfi len lf M (k + 1) := by
  funext j
  unfold lfi
  by_cases e : j = k
  · subst e; rw [updZ_s, if_pos (by omega), if_neg (by rw [h]; simp)]
  · rw [updZ_n e]
    by_cases q : j < k
    · rw [if_pos q, if_pos (show j < k + 1 by omega)]
    · rw [if_neg q, if_neg (show ¬ j < k + 1 by omega)]
theorem lfi_6 (len lf : Nat → Int) (M : Nat) : ∀ j, j < 6 → lfi len lf M 6 j = if M.testBit j = true then len j else 0 := fun j hj => if_pos hj
theorem j_lf {rel len tl lf : Nat → Int} {M : Nat} {a0 t L : Int} (hd : dOK rel len tl) (h : jInv rel len tl M a0 t L lf) : ∀ i, i < 6 → 0 ≤ lf i ∧ lf i ≤ 12 := fun i hi => by
  have h1 := h.1 i hi
  have h2 := hd i hi
  refine ⟨h1.1, ?_⟩
  have h3 := h1.2
  split at h3 <;> omega
theorem jMu_none {rel lf : Nat → Int} {t : Int} (h : ∀ j, j < 6 → ¬ 0 < lf j) : jMu rel lf t = 0 := si_zero fun k hk => if_neg (h k hk)
end
section
/-! the search's rounds, taken apart -/
theorem sWp_exit {rel len tl : Nat → Int} {P : Nat} {a b : Int} {fx : Nat} {Post : Int → (Nat → Int) → (Nat → Int) → (Nat → Int) → Prop} : ∀ {n : Nat} {lv : Int} {U : Nat} {bs : Int} {tr dn ln : Nat → Int}, sWp rel len tl P a b fx Post n lv U bs tr dn ln → lv < fx → Post bs tr dn ln
  | 0, _, _, _, _, _, _, h, _ => h.2
  | n + 1, _, _, _, _, _, _, h, hlt => by
    rcases h with ⟨-, q⟩ | ⟨d, e, hfd, -⟩
    · exact q
    · omega
theorem sWp_go {rel len tl : Nat → Int} {P : Nat} {a b : Int} {fx : Nat} {Post : Int → (Nat → Int) → (Nat → Int) → (Nat → Int) → Prop} {n : Nat} {lv : Int} {U : Nat} {bs : Int} {tr dn ln : Nat → Int} (h : sWp rel len tl P a b fx Post (n + 1) lv U bs tr dn ln) (hge : (fx : Int) ≤ lv) :
    ∃ d : Nat, lv = (d : Int) ∧ fx ≤ d ∧ d ≤ 5 ∧ U < 64 ∧ (-1 ≤ tr d ∧ tr d ≤ 5) ∧ (0 ≤ dn d ∧ dn d ≤ 1300) ∧ (0 ≤ ln d ∧ ln d ≤ 2000) ∧ (0 ≤ bs ∧ bs ≤ 100000) ∧ (fx < d → 0 ≤ tr (d - 1) ∧ tr (d - 1) ≤ 5) ∧
      (njIs P U a b (tr d + 1) (-1) → sWp rel len tl P a b fx Post n ((d : Int) - 1) (if fx < d then sd U (2 ^ (tr (d - 1)).toNat) else U) bs tr dn ln) ∧
      (∀ j : Nat, j < 6 → njIs P U a b (tr d + 1) (j : Int) → P.testBit j = true ∧ U.testBit j = false ∧ ∀ z : Int, jpsIs rel len tl (sd (sd P U) (2 ^ j)) (nx rel len (dn d) j) z →
        (max z (max (ln d) (nx rel len (dn d) j + tl j)) < bs → sd (sd P U) (2 ^ j) = 0 → sWp rel len tl P a b fx Post n (d : Int) U (max z (max (ln d) (nx rel len (dn d) j + tl j))) (updZ tr d (j : Int)) (updZ dn (d + 1) (nx rel len (dn d) j)) (updZ ln (d + 1) (max (ln d) (nx rel len (dn d) j + tl j)))) ∧
        (max z (max (ln d) (nx rel len (dn d) j + tl j)) < bs → sd (sd P U) (2 ^ j) ≠ 0 → d ≤ 4 ∧ sWp rel len tl P a b fx Post n ((d : Int) + 1) (U ||| 2 ^ j) bs (updZ (updZ tr d (j : Int)) (d + 1) (-1)) (updZ dn (d + 1) (nx rel len (dn d) j)) (updZ ln (d + 1) (max (ln d) (nx rel len (dn d) j + tl j)))) ∧
        (¬ max z (max (ln d) (nx rel len (dn d) j + tl j)) < bs → sWp rel len tl P a b fx Post n (d : Int) U bs (updZ tr d (j : Int)) (updZ dn (d + 1) (nx rel len (dn d) j)) (updZ ln (d + 1) (max (ln d) (nx rel len (dn d) j + tl j))))) := by
  rcases h with ⟨q, -⟩ | q
  · omega
  · exact q
theorem wMin_nil {rel len tl : Nat → Int} {a b : Int} {R U : Nat} (hR : R < 64) (h : cnt R = 0) (t L : Int) : wMin rel len tl a b R U t L L := by
  have e := (cnt_zero hR).mp h
  subst e
  refine ⟨fun o ho _ => ?_, Or.inr ⟨[], rfl, trivial, rfl⟩⟩
  cases o with
  | nil => exact Int.le_refl _
  | cons i o =>
    have := ho.1
    simp at this
theorem nj_nat {P U : Nat} {a b c z : Int} (h : njIs P U a b c z) (hz : 0 ≤ z) : ∃ j : Nat, z = (j : Int) ∧ j < 6 := by
  rcases h with ⟨h1, -⟩ | ⟨j, h1, h2, -⟩
  · omega
  · exact ⟨j, h1, h2⟩
theorem nj_neg {P U : Nat} {a b c z : Int} (h : njIs P U a b c z) (hz : z < 0) : z = -1 := by
  rcases h with ⟨h1, -⟩ | ⟨j, h1, h2, -⟩
  · exact h1
  · omega
theorem nj_rng {P U : Nat} {a b c z : Int} (h : njIs P U a b c z) : -1 ≤ z ∧ z ≤ 5 := by
  rcases h with ⟨h1, -⟩ | ⟨j, h1, h2, -⟩ <;> omega
end
section
/-! the first best order, place by place -/
/-- v is the least length of P, o its first best order, and bo holds o -/
def knOK (P : Nat) (rel len tl : Nat → Int) (v : Int) (bo : Nat → Int) : Prop := wMin rel len tl (-1) (-1) P 0 0 0 v ∧ ∃ o, fst rel len tl v P 0 0 o ∧ ∀ i, i < cnt P → bo i = ((o.getD i 0 : Nat) : Int)
def knst (P : Nat) (rel len tl : Nat → Int) (kn v : Int) (bo : Nat → Int) : Prop := kn = 0 ∨ (kn = 1 ∧ (0 ≤ v ∧ v ≤ 100000) ∧ knOK P rel len tl v bo)
/-- the first kk places of the first best order stand -/
def lnInv (P : Nat) (rel len tl : Nat → Int) (v : Int) (kk : Nat) (tr dn ln bo : Nat → Int) : Prop :=
  ∃ pre : List Nat, pre.length = kk ∧ (∀ i, i < kk → tr i = ((pre.getD i 0 : Nat) : Int) ∧ bo i = ((pre.getD i 0 : Nat) : Int)) ∧ (∀ i, i < kk → 0 ≤ tr i ∧ tr i ≤ 5) ∧ (∀ i, (um tr kk).testBit i = true → P.testBit i = true) ∧ kk + cnt (sd P (um tr kk)) = cnt P ∧ (0 ≤ dn kk ∧ dn kk ≤ 212 * kk) ∧ (0 ≤ ln kk ∧ ln kk ≤ 212 * kk + 200) ∧
    (∀ o, isOrd (sd P (um tr kk)) o → v ≤ run rel len tl (dn kk) (ln kk) o) ∧ (∃ o, isOrd (sd P (um tr kk)) o ∧ run rel len tl (dn kk) (ln kk) o = v) ∧ ∀ o, fst rel len tl v (sd P (um tr kk)) (dn kk) (ln kk) o → fst rel len tl v P 0 0 (pre ++ o)
theorem wMin_real {rel len tl : Nat → Int} (hd : dOK rel len tl) {P U : Nat} (hP : P < 64) {t L z : Int} (ht : t ≤ 10000) (hL : L ≤ 10000) (h : wMin rel len tl (-1) (-1) P U t L z) : z < 100000 ∧ ∃ o, isOrd P o ∧ run rel len tl t L o = z := by
  rcases h.2 with e | ⟨o, h1, -, h3⟩
  · obtain ⟨o, ho⟩ := isOrd_ex _ P hP rfl
    have h1 := h.1 o ho (okO_no (by omega) o U)
    have h2 := run_100000 hd hP ht hL o ho
    omega
  · have h2 := run_100000 hd hP ht hL o h1
    exact ⟨by omega, o, h1, h3⟩
theorem ln_init {rel len tl : Nat → Int} (hd : dOK rel len tl) {P : Nat} (hP : P < 64) {v : Int} (h : wMin rel len tl (-1) (-1) P 0 0 0 v) {tr dn ln bo : Nat → Int} (h1 : dn 0 = 0) (h2 : ln 0 = 0) : lnInv P rel len tl v 0 tr dn ln bo := by
  have e : sd P (um tr 0) = P := sd_zero P
  obtain ⟨-, o, ho1, ho2⟩ := wMin_real hd hP (by omega) (by omega) h
  refine ⟨[], rfl, fun i hi => absurd hi (by omega), fun i hi => absurd hi (by omega), fun i hi => ?_, ?_, by omega, by omega, fun o ho => ?_, ⟨o, ?_, ?_⟩, fun o ho => ?_⟩
  · have : (0 : Nat).testBit i = true := hi
    simp at this
  · rw [e]; omega
  · rw [e] at ho
    rw [h1, h2]
    exact h.1 o ho (okO_no (by omega) o 0)
  · rw [e]; exact ho1
  · rw [h1, h2]; exact ho2
  · rw [e, h1, h2] at ho
    exact ho
theorem um_step {tr tr2 : Nat → Int} {kk j : Nat} (h : ∀ i, i < kk → tr2 i = tr i) : um (updZ tr2 kk (j : Int)) (kk + 1) = um tr kk ||| 2 ^ j := by
  show um (updZ tr2 kk (j : Int)) kk ||| 2 ^ (updZ tr2 kk (j : Int) kk).toNat = _
  rw [updZ_s, Int.toNat_natCast, um_cong (tr := tr) (fun i hi => by rw [updZ_n (by omega)]; exact h i hi)]
/-- job j is the first with which the least length v can still be reached -/
def ffIs (P : Nat) (rel len tl : Nat → Int) (v : Int) (U : Nat) (t L : Int) (j : Nat) : Prop := j < 6 ∧ (sd P U).testBit j = true ∧ (∀ i, i < j → (sd P U).testBit i = true → ¬ ∃ o, isOrd (sd (sd P U) (2 ^ i)) o ∧ run rel len tl (nx rel len t i) (max L (nx rel len t i + tl i)) o = v) ∧ ∃ o, isOrd (sd (sd P U) (2 ^ j)) o ∧ run rel len tl (nx rel len t j) (max L (nx rel len t j + tl j)) o = v
theorem getD_snoc_lt {l : List Nat} {x i : Nat} (h : i < l.length) : (l ++ [x]).getD i 0 = l.getD i 0 := by
  simp [List.getD_eq_getElem?_getD, List.getElem?_append_left h]
theorem getD_snoc_eq {l : List Nat} {x : Nat} : (l ++ [x]).getD l.length 0 = x := by
  simp [List.getD_eq_getElem?_getD]
theorem ln_step {rel len tl : Nat → Int} (hd : dOK rel len tl) {P : Nat} (hP : P < 64) {v : Int} {kk j : Nat} {tr dn ln bo tr2 dn2 ln2 : Nat → Int} (H : lnInv P rel len tl v kk tr dn ln bo) (hj : ffIs P rel len tl v (um tr kk) (dn kk) (ln kk) j) (h1 : ∀ i, i < kk → tr2 i = tr i) (h2 : ∀ i, i ≤ kk → dn2 i = dn i ∧ ln2 i = ln i) :
    lnInv P rel len tl v (kk + 1) (updZ tr2 kk (j : Int)) (updZ dn2 (kk + 1) (nx rel len (dn2 kk) j)) (updZ ln2 (kk + 1) (max (ln2 kk) (nx rel len (dn2 kk) j + tl j))) (updZ bo kk (j : Int)) := by
  obtain ⟨pre, p1, p2, p3, p4, p5, p6, p7, p8, p9, p10⟩ := H
  obtain ⟨j1, j2, j3, o1, o2, o3⟩ := hj
  obtain ⟨e1, e2⟩ := h2 kk (Nat.le_refl _)
  have eU := um_step (j := j) h1
  have hdj := hd j j1
  have hcn := cnt_one j1 j2
  have eS : sd P (um tr kk ||| 2 ^ j) = sd (sd P (um tr kk)) (2 ^ j) := (sd_sd_one P _ j).symm
  have hbj : P.testBit j = true := by
    rw [sd_bit] at j2
    simp only [Bool.and_eq_true] at j2
    exact j2.1
  have ht : 0 ≤ nx rel len (dn kk) j ∧ nx rel len (dn kk) j ≤ 212 * (kk + 1) := by unfold nx; omega
  refine ⟨pre ++ [j], by simp [p1], fun i hi => ?_, fun i hi => ?_, ?_, ?_, ?_, ?_, ?_, ?_, ?_⟩
  · by_cases q : i = kk
    · subst q
      rw [updZ_s, updZ_s, ← p1, getD_snoc_eq]
      exact ⟨rfl, rfl⟩
    · rw [updZ_n q, updZ_n q, getD_snoc_lt (by omega), h1 i (by omega)]
      exact p2 i (by omega)
  · by_cases q : i = kk
    · subst q; rw [updZ_s]; omega
    · rw [updZ_n q, h1 i (by omega)]; exact p3 i (by omega)
  · rw [eU]
    intro i hi
    rw [or_one] at hi
    simp only [Bool.or_eq_true, decide_eq_true_eq] at hi
    rcases hi with hi | hi
    · exact p4 i hi
    · rw [← hi]; exact hbj
  · rw [eU, eS]; omega
  · rw [updZ_s, e1]; omega
  · rw [updZ_s, e1, e2]; omega
  · rw [eU, eS, updZ_s, updZ_s, e1, e2]
    intro o ho
    exact p8 (j :: o) ⟨j2, ho⟩
  · rw [eU, eS, updZ_s, updZ_s, e1, e2]
    exact ⟨o1, o2, o3⟩
  · rw [eU, eS, updZ_s, updZ_s, e1, e2]
    intro o ho
    have := p10 (j :: o) ⟨j2, j3, ho⟩
    rw [List.append_assoc]
    exact this
theorem ln_end {rel len tl : Nat → Int} {P : Nat} (hP : P < 64) {v : Int} {tr dn ln bo : Nat → Int} (H : lnInv P rel len tl v (cnt P) tr dn ln bo) : ∃ o, fst rel len tl v P 0 0 o ∧ ∀ i, i < cnt P → bo i = ((o.getD i 0 : Nat) : Int) := by
  obtain ⟨pre, p1, p2, p3, p4, p5, p6, p7, p8, ⟨o, o1, o2⟩, p10⟩ := H
  have e : sd P (um tr (cnt P)) = 0 := (cnt_zero (sd_lt _ hP)).mp (by omega)
  rw [e] at o1
  have eo : o = [] := by
    cases o with
    | nil => rfl
    | cons i o =>
      have := o1.1
      simp at this
  subst eo
  refine ⟨pre, ?_, fun i hi => (p2 i hi).2⟩
  have := p10 [] ⟨e, o2⟩
  rw [List.append_nil] at this
  exact this
/-- some completion is there: not every job can fail -/
theorem ff_some {rel len tl : Nat → Int} {P : Nat} (hP : P < 64) {v : Int} {kk : Nat} {tr dn ln bo : Nat → Int} (H : lnInv P rel len tl v kk tr dn ln bo) (hlt : kk < cnt P) : ∃ j, j < 6 ∧ (sd P (um tr kk)).testBit j = true ∧ ∃ o, isOrd (sd (sd P (um tr kk)) (2 ^ j)) o ∧ run rel len tl (nx rel len (dn kk) j) (max (ln kk) (nx rel len (dn kk) j + tl j)) o = v := by
  obtain ⟨pre, p1, p2, p3, p4, p5, p6, p7, p8, ⟨o, o1, o2⟩, p10⟩ := H
  cases o with
  | nil =>
    have e : sd P (um tr kk) = 0 := o1
    rw [e] at p5
    have : cnt 0 = 0 := by decide
    omega
  | cons j o => exact ⟨j, bit_lt (sd_lt _ hP) o1.1, o1.1, o, o1.2, o2⟩
/-- the search behind job j answers v just when v can still be reached -/
theorem ff_iff {rel len tl : Nat → Int} (hd : dOK rel len tl) {P : Nat} (hP : P < 64) {v z : Int} {kk j U' : Nat} {tr dn ln bo : Nat → Int} (H : lnInv P rel len tl v kk tr dn ln bo) (hj : (sd P (um tr kk)).testBit j = true) (hv : v < 100000) (h : wMin rel len tl (-1) (-1) (sd (sd P (um tr kk)) (2 ^ j)) U' (nx rel len (dn kk) j) (max (ln kk) (nx rel len (dn kk) j + tl j)) z) : z = v ↔ ∃ o, isOrd (sd (sd P (um tr kk)) (2 ^ j)) o ∧ run rel len tl (nx rel len (dn kk) j) (max (ln kk) (nx rel len (dn kk) j + tl j)) o = v := by
  obtain ⟨pre, p1, p2, p3, p4, p5, p6, p7, p8, -, -⟩ := H
  constructor
  · intro e
    rcases h.2 with q | ⟨o, q1, -, q3⟩
    · omega
    · exact ⟨o, q1, by omega⟩
  · rintro ⟨o, q1, q2⟩
    have h1 := h.1 o q1 (okO_no (by omega) o _)
    rcases h.2 with q | ⟨o', r1, -, r3⟩
    · omega
    · have h2 := p8 (j :: o') ⟨hj, r1⟩
      have h3 : run rel len tl (dn kk) (ln kk) (j :: o') = z := r3
      omega
/-- job k stands from place i on, and begins as it does from time t on -/
def bgInv (rel len : Nat → Int) (o : List Nat) (k i : Nat) (t : Int) : Prop := k ∈ o.drop i ∧ beg rel len 0 o k = beg rel len t (o.drop i) k
theorem bg_drop {o : List Nat} {k i : Nat} (h : k ∈ o.drop i) : i < o.length ∧ o.drop i = o.getD i 0 :: o.drop (i + 1) := by
  have hi : i < o.length := by
    rcases Nat.lt_or_ge i o.length with q | q
    · exact q
    · rw [List.drop_eq_nil_of_le q] at h
      cases h
  refine ⟨hi, ?_⟩
  rw [List.drop_eq_getElem_cons hi]
  congr 1
  simp [List.getD_eq_getElem?_getD, hi]
theorem bg_next {rel len : Nat → Int} {o : List Nat} {k i : Nat} {t : Int} (h : bgInv rel len o k i t) (hne : o.getD i 0 ≠ k) : bgInv rel len o k (i + 1) (nx rel len t (o.getD i 0)) := by
  obtain ⟨h1, h2⟩ := h
  obtain ⟨-, e⟩ := bg_drop h1
  rw [e] at h1 h2
  refine ⟨?_, ?_⟩
  · rcases List.mem_cons.mp h1 with q | q
    · exact absurd q.symm hne
    · exact q
  · rw [h2]
    exact if_neg hne
theorem bg_here {rel len : Nat → Int} {o : List Nat} {k i : Nat} {t : Int} (h : bgInv rel len o k i t) (he : o.getD i 0 = k) : beg rel len 0 o k = max t (rel k) := by
  obtain ⟨h1, h2⟩ := h
  obtain ⟨-, e⟩ := bg_drop h1
  rw [h2, e, he]
  exact if_pos rfl
theorem ord_getD {o : List Nat} {R i : Nat} (hR : R < 64) (h : isOrd R o) (hi : i < o.length) : o.getD i 0 < 6 ∧ R.testBit (o.getD i 0) = true := by
  have e : o.getD i 0 = o[i] := by simp [List.getD_eq_getElem?_getD, hi]
  have hm : o.getD i 0 ∈ o := by rw [e]; exact List.getElem_mem hi
  have := (isOrd_mem o R h _).mp hm
  exact ⟨bit_lt hR this, this⟩
/-- a binary search's width -/
theorem half_w (rd : Nat) : 201 / 2 ^ (rd + 1) = 201 / 2 ^ rd / 2 := by rw [Nat.pow_succ, Nat.div_div_eq_div_mul]
theorem updZ_back {a a' : Nat → Int} {k : Nat} (h : ∀ i, i ≠ k → a' i = a i) : updZ a' k (a k) = a := by
  funext i
  by_cases q : i = k
  · subst q; rw [updZ_s]
  · rw [updZ_n q, h i q]
theorem updZ_on {a a' : Nat → Int} {k : Nat} (v : Int) (h : ∀ i, i ≠ k → a' i = a i) : updZ a' k v = updZ a k v := by
  funext i
  by_cases q : i = k
  · subst q; rw [updZ_s, updZ_s]
  · rw [updZ_n q, updZ_n q, h i q]
theorem dOK_tl {rel len tl : Nat → Int} (hd : dOK rel len tl) (k : Nat) {v : Int} (hv : 0 ≤ v ∧ v ≤ 200) : dOK rel len (updZ tl k v) := fun j hj => by
  have := hd j hj
  by_cases q : j = k
  · subst q; rw [updZ_s]; omega
  · rw [updZ_n q]; exact this
theorem dOK_rel {rel len tl : Nat → Int} (hd : dOK rel len tl) (k : Nat) {v : Int} (hv : 0 ≤ v ∧ v ≤ 200) : dOK (updZ rel k v) len tl := fun j hj => by
  have := hd j hj
  by_cases q : j = k
  · subst q; rw [updZ_s]; omega
  · rw [updZ_n q]; exact this
end
section
/-! HeadTail: the small methods -/
set_option maxRecDepth 100000
set_option maxHeartbeats 4000000 in
/-- has(j) -/
theorem mX_has (l : Launch) (P : Nat) (rel len tl lf tr dn ln : Nat → Int) (kn ll : Int) (bo : Nat → Int) (hP : P < 64) (j : Int) (hj : -2147483648 ≤ j ∧ j ≤ 2147483647) : CXi l yX0_has cX0_has 2 (some .boolean) 0 0 [.int (iI j)] (P, rel, len, tl, lf, tr, dn, ln, kn, ll, bo) (fun z _ => hasIs P j z) (fun (_ : Unit) => (P, rel, len, tl, lf, tr, dn, ln, kn, ll, bo)) := by
  refine CXi.of (by decide) rfl (fun _ => Nat.le_of_ble_eq_true rfl) ?_
  intro p e s m below meth c D h g A S hr hlk w ls hl
  have hl : lv_has ls 2 [(0, .ref (h 0)), (1, .int (iI j))] := hl
  have w : xA D h g A s s.heap P rel len tl lf tr dn ln kn ll bo s.heap [] := w
  refine lv_iload_n S.1 S.2.1 dX0_has_0 rfl (lv_at hl 1 rfl) ?_
  refine zi_if_lt (tgt := 25) S dX0_has_1 (by decide) (by omega) (fun c1 => ?_) (fun c1 => ?_)
  · refine zi_iconst S dX0_has_25 ?_
    exact xreti () S hr rfl hlk w (Or.inr ⟨rfl, fun k' hk h6 => by first | omega | (have ek : k' = k := (by omega); subst ek; assumption)⟩) dX0_has_26
  · refine lv_iload_n S.1 S.2.1 dX0_has_4 rfl (lv_at hl 1 rfl) ?_
    refine zi_bipush S dX0_has_5 (by decide) ?_
    refine zi_icmp_ge (tgt := 25) S dX0_has_7 (by decide) (by omega) (by omega) (fun c2 => ?_) (fun c2 => ?_)
    · refine zi_iconst S dX0_has_25 ?_
      exact xreti () S hr rfl hlk w (Or.inr ⟨rfl, fun k' hk h6 => by first | omega | (have ek : k' = k := (by omega); subst ek; assumption)⟩) dX0_has_26
    · obtain ⟨k, rfl⟩ : ∃ k : Nat, j = (k : Int) := ⟨j.toNat, by omega⟩
      refine lv_aload_n S.1 S.2.1 dX0_has_10 rfl (lv_at hl 0 rfl) ?_
      refine xg_P S w dX0_has_11 ?_
      refine lv_iload_n S.1 S.2.1 dX0_has_14 rfl (lv_at hl 1 rfl) ?_
      refine zi_bit S P k (by first | rfl | omega) (by first | rfl | omega) (by omega) (by omega) dX0_has_15 dX0_has_16 dX0_has_17 ?_
      have hbz := bz_r P k
      refine zi_if_eq (tgt := 25) S dX0_has_18 (by decide) (by omega) (fun c3 => ?_) (fun c3 => ?_)
      · have c3 : (P).testBit k = false := bz_0.mp c3
        refine zi_iconst S dX0_has_25 ?_
        exact xreti () S hr rfl hlk w (Or.inr ⟨rfl, fun k' hk h6 => by first | omega | (have ek : k' = k := (by omega); subst ek; assumption)⟩) dX0_has_26
      · have c3 : (P).testBit k = true := bz_n0 c3
        refine zi_iconst S dX0_has_21 ?_
        refine lv_goto (tgt := 26) S.1 S.2.1 dX0_has_22 (by decide) ?_
        exact xreti () S hr rfl hlk w (Or.inl ⟨rfl, k, rfl, by omega, c3⟩) dX0_has_26
set_option maxHeartbeats 4000000 in
theorem mX_numbersOk (l : Launch) (r q t : Int) (hr0 : -2147483648 ≤ r ∧ r ≤ 2147483647) (hq0 : -2147483648 ≤ q ∧ q ≤ 2147483647) (ht0 : -2147483648 ≤ t ∧ t ≤ 2147483647) : CSi l yX0_numbersOk cX0_numbersOk 3 (some .boolean) [.int (iI r), .int (iI q), .int (iI t)] (fun z => numIs r q t z) := by
  refine CSi.of (by decide) rfl (Nat.le_of_ble_eq_true rfl) ?_
  intro p e s m below meth c S hr hlk ls hl
  have hl : lv_has ls 3 [(0, .int (iI r)), (1, .int (iI q)), (2, .int (iI t))] := hl
  refine lv_iload_n S.1 S.2.1 dX0_numbersOk_0 rfl (lv_at hl 0 rfl) ?_
  refine zi_if_lt (tgt := 35) S dX0_numbersOk_1 (by decide) (by omega) (fun c4 => ?_) (fun c4 => ?_)
  · refine zi_iconst S dX0_numbersOk_35 ?_
    exact sreti S hr rfl hlk (by unfold numIs numOk; omega) dX0_numbersOk_36
  · refine lv_iload_n S.1 S.2.1 dX0_numbersOk_4 rfl (lv_at hl 0 rfl) ?_
    refine zi_bipush S dX0_numbersOk_5 (by decide) ?_
    refine zi_icmp_gt (tgt := 35) S dX0_numbersOk_7 (by decide) (by omega) (by omega) (fun c5 => ?_) (fun c5 => ?_)
    · refine zi_iconst S dX0_numbersOk_35 ?_
      exact sreti S hr rfl hlk (by unfold numIs numOk; omega) dX0_numbersOk_36
    · refine lv_iload_n S.1 S.2.1 dX0_numbersOk_10 rfl (lv_at hl 1 rfl) ?_
      refine zi_iconst S dX0_numbersOk_11 ?_
      refine zi_icmp_lt (tgt := 35) S dX0_numbersOk_12 (by decide) (by omega) (by omega) (fun c6 => ?_) (fun c6 => ?_)
      · refine zi_iconst S dX0_numbersOk_35 ?_
        exact sreti S hr rfl hlk (by unfold numIs numOk; omega) dX0_numbersOk_36
      · refine lv_iload_n S.1 S.2.1 dX0_numbersOk_15 rfl (lv_at hl 1 rfl) ?_
        refine zi_bipush S dX0_numbersOk_16 (by decide) ?_
        refine zi_icmp_gt (tgt := 35) S dX0_numbersOk_18 (by decide) (by omega) (by omega) (fun c7 => ?_) (fun c7 => ?_)
        · refine zi_iconst S dX0_numbersOk_35 ?_
          exact sreti S hr rfl hlk (by unfold numIs numOk; omega) dX0_numbersOk_36
        · refine lv_iload_n S.1 S.2.1 dX0_numbersOk_21 rfl (lv_at hl 2 rfl) ?_
          refine zi_if_lt (tgt := 35) S dX0_numbersOk_22 (by decide) (by omega) (fun c8 => ?_) (fun c8 => ?_)
          · refine zi_iconst S dX0_numbersOk_35 ?_
            exact sreti S hr rfl hlk (by unfold numIs numOk; omega) dX0_numbersOk_36
          · refine lv_iload_n S.1 S.2.1 dX0_numbersOk_25 rfl (lv_at hl 2 rfl) ?_
            refine zi_bipush S dX0_numbersOk_26 (by decide) ?_
            refine zi_icmp_gt (tgt := 35) S dX0_numbersOk_28 (by decide) (by omega) (by omega) (fun c9 => ?_) (fun c9 => ?_)
            · refine zi_iconst S dX0_numbersOk_35 ?_
              exact sreti S hr rfl hlk (by unfold numIs numOk; omega) dX0_numbersOk_36
            · refine zi_iconst S dX0_numbersOk_31 ?_
              refine lv_goto (tgt := 36) S.1 S.2.1 dX0_numbersOk_32 (by decide) ?_
              exact sreti S hr rfl hlk (by unfold numIs numOk; omega) dX0_numbersOk_36
set_option maxHeartbeats 4000000 in
/-- put(j, r, q, t) -/
theorem mX_put (l : Launch) (P : Nat) (rel len tl lf tr dn ln : Nat → Int) (kn ll : Int) (bo : Nat → Int) (j : Nat) (hj : j < 6) (r q t : Int) (hv : numOk r q t) : CXv l yX0_put cX0_put 5 0 0 [.int (iI (j : Int)), .int (iI r), .int (iI q), .int (iI t)] (P, rel, len, tl, lf, tr, dn, ln, kn, ll, bo) (fun _ => True) (fun (_ : Unit) => (P, updZ rel j r, updZ len j q, updZ tl j t, lf, tr, dn, ln, 0, ll, bo)) := by
  refine CXv.of (by decide) rfl (fun _ => Nat.le_of_ble_eq_true rfl) ?_
  intro p e s m below meth c D h g A S hr hlk w ls hl
  have hl : lv_has ls 5 [(0, .ref (h 0)), (1, .int (iI (j : Int))), (2, .int (iI r)), (3, .int (iI q)), (4, .int (iI t))] := hl
  have w : xA D h g A s s.heap P rel len tl lf tr dn ln kn ll bo s.heap [] := w
  unfold numOk at hv
  refine lv_aload_n S.1 S.2.1 dX0_put_0 rfl (lv_at hl 0 rfl) ?_
  refine xg_rel S w dX0_put_1 ?_
  refine lv_iload_n S.1 S.2.1 dX0_put_4 rfl (lv_at hl 1 rfl) ?_
  refine lv_iload_n S.1 S.2.1 dX0_put_5 rfl (lv_at hl 2 rfl) ?_
  refine zi_i2s S (by omega) dX0_put_6 ?_
  refine xs_rel S w j (by first | rfl | omega) (by omega) (by omega) dX0_put_7 (fun H locs w => ?_)
  refine lv_aload_n S.1 S.2.1 dX0_put_8 rfl (lv_at hl 0 rfl) ?_
  refine xg_len S w dX0_put_9 ?_
  refine lv_iload_n S.1 S.2.1 dX0_put_12 rfl (lv_at hl 1 rfl) ?_
  refine lv_iload_n S.1 S.2.1 dX0_put_13 rfl (lv_at hl 3 rfl) ?_
  refine zi_i2s S (by omega) dX0_put_14 ?_
  refine xs_len S w j (by first | rfl | omega) (by omega) (by omega) dX0_put_15 (fun H locs w => ?_)
  refine lv_aload_n S.1 S.2.1 dX0_put_16 rfl (lv_at hl 0 rfl) ?_
  refine xg_tl S w dX0_put_17 ?_
  refine lv_iload_n S.1 S.2.1 dX0_put_20 rfl (lv_at hl 1 rfl) ?_
  refine lv_iload S.1 S.2.1 dX0_put_21 (lv_at hl 4 rfl) ?_
  refine zi_i2s S (by omega) dX0_put_23 ?_
  refine xs_tl S w j (by first | rfl | omega) (by omega) (by omega) dX0_put_24 (fun H locs w => ?_)
  refine lv_aload_n S.1 S.2.1 dX0_put_25 rfl (lv_at hl 0 rfl) ?_
  refine zi_iconst S dX0_put_26 ?_
  refine xp_kn S w (by omega) dX0_put_27 (fun H locs w => ?_)
  exact xretv () S hr hlk w trivial dX0_put_30
set_option maxHeartbeats 4000000 in
/-- jobs() -/
theorem mX_jobs (l : Launch) (P : Nat) (rel len tl lf tr dn ln : Nat → Int) (kn ll : Int) (bo : Nat → Int) : CXi l yX0_jobs cX0_jobs 1 (some .int) 0 0 [] (P, rel, len, tl, lf, tr, dn, ln, kn, ll, bo) (fun z _ => z = (P : Int)) (fun (_ : Unit) => (P, rel, len, tl, lf, tr, dn, ln, kn, ll, bo)) := by
  refine CXi.of (by decide) rfl (fun _ => Nat.le_of_ble_eq_true rfl) ?_
  intro p e s m below meth c D h g A S hr hlk w ls hl
  have hl : lv_has ls 1 [(0, .ref (h 0))] := hl
  have w : xA D h g A s s.heap P rel len tl lf tr dn ln kn ll bo s.heap [] := w
  refine lv_aload_n S.1 S.2.1 dX0_jobs_0 rfl (lv_at hl 0 rfl) ?_
  refine xg_P S w dX0_jobs_1 ?_
  exact xreti () S hr rfl hlk w rfl dX0_jobs_4
set_option maxHeartbeats 4000000 in
/-- add(r, q, t) -/
theorem mX_add (l : Launch) (P : Nat) (rel len tl lf tr dn ln : Nat → Int) (kn ll : Int) (bo : Nat → Int) (hP : P < 64) (r q t : Int) (hr0 : -2147483648 ≤ r ∧ r ≤ 2147483647) (hq0 : -2147483648 ≤ q ∧ q ≤ 2147483647) (ht0 : -2147483648 ≤ t ∧ t ≤ 2147483647) : CXi l yX0_add cX0_add 5 (some .int) 1 24 [.int (iI r), .int (iI q), .int (iI t)] (P, rel, len, tl, lf, tr, dn, ln, kn, ll, bo) (fun z (u : XS) => (z = -1 ∧ ¬ numOk r q t ∧ u = (P, rel, len, tl, lf, tr, dn, ln, kn, ll, bo)) ∨ (numOk r q t ∧ ∃ k : Nat, k < 6 ∧ z = (k : Int) ∧ P.testBit k = false ∧ (∀ i, i < k → P.testBit i = true) ∧ u = (P ||| 2 ^ k, updZ rel k r, updZ len k q, updZ tl k t, lf, tr, dn, ln, 0, ll, bo)) ∨ (z = -2 ∧ numOk r q t ∧ (∀ i, i < 6 → P.testBit i = true) ∧ u = (P, rel, len, tl, lf, tr, dn, ln, kn, ll, bo))) (fun u => u) := by
  refine CXi.of (by decide) rfl (fun _ => Nat.le_of_ble_eq_true rfl) ?_
  intro p e s m below meth c D h g A S hr hlk w ls hl
  have hl : lv_has ls 5 [(0, .ref (h 0)), (1, .int (iI r)), (2, .int (iI q)), (3, .int (iI t))] := hl
  have w : xA D h g A s s.heap P rel len tl lf tr dn ln kn ll bo s.heap [] := w
  refine lv_iload_n S.1 S.2.1 dX0_add_0 rfl (lv_at hl 1 rfl) ?_
  refine lv_iload_n S.1 S.2.1 dX0_add_1 rfl (lv_at hl 2 rfl) ?_
  refine lv_iload_n S.1 S.2.1 dX0_add_2 rfl (lv_at hl 3 rfl) ?_
  refine xcalls (n := 3) (u0 := (P, rel, len, tl, lf, tr, dn, ln, kn, ll, bo)) [] S w q77 q78 q26 q79 (by decide +kernel) (mX_numbersOk l r q t (by omega) (by omega) (by omega)) rfl ⟨Nat.le_of_ble_eq_true rfl, Nat.le_of_ble_eq_true rfl⟩ hl.1 (Nat.le_of_ble_eq_true rfl) rfl ⟨Nat.zero_le _, Nat.zero_le _⟩ dX0_add_3 (fun z H locs hp w => ?_)
  have w : xA D h g A s s.heap P rel len tl lf tr dn ln kn ll bo H locs := w
  rcases hp with ⟨rfl, hok⟩ | ⟨rfl, hok⟩
  · refine zi_if_ne (tgt := 11) S dX0_add_6 (by decide) (by omega) (fun c10 => ?_) (fun c10 => absurd c10 (by omega))
    refine zi_iconst S dX0_add_11 ?_
    refine lv_istore (lv' := [(4, .int (iI 0)), (0, .ref (h 0)), (1, .int (iI r)), (2, .int (iI q)), (3, .int (iI t))]) S.1 S.2.1 dX0_add_12 hl (by decide) rfl (fun ls hl => ?_)
    refine W_loop (fun n H locs ls => ∃ k2 : Nat, n = 6 - k2 ∧ k2 ≤ 6 ∧ (∀ i, i < k2 → P.testBit i = true) ∧ xA D h g A s s.heap P rel len tl lf tr dn ln kn ll bo H locs ∧ lv_has ls 5 [(0, .ref (h 0)), (1, .int (iI r)), (2, .int (iI q)), (3, .int (iI t)), (4, .int (iI (k2 : Int)))]) 14 ?_ 6 _ _ _ ⟨0, rfl, by omega, fun i hi => absurd hi (by omega), w, lv_sub hl [1, 2, 3, 4, 0] rfl⟩
    intro n H locs ls hI ih
    obtain ⟨k2, hn, hk26, hall, w, hl⟩ := hI
    refine lv_iload S.1 S.2.1 dX0_add_14 (lv_at hl 4 rfl) ?_
    refine zi_bipush S dX0_add_16 (by decide) ?_
    refine zi_icmp_ge (tgt := 61) S dX0_add_18 (by decide) (by omega) (by omega) (fun c11 => ?_) (fun c11 => ?_)
    · refine zi_bipush S dX0_add_61 (by decide) ?_
      exact xreti (P, rel, len, tl, lf, tr, dn, ln, kn, ll, bo) S hr rfl hlk w (Or.inr (Or.inr ⟨rfl, hok, fun i hi => hall i (by omega), rfl⟩)) dX0_add_63
    · refine lv_aload_n S.1 S.2.1 dX0_add_21 rfl (lv_at hl 0 rfl) ?_
      refine lv_iload S.1 S.2.1 dX0_add_22 (lv_at hl 4 rfl) ?_
      refine xcalli [] S w fX_has (mX_has l P rel len tl lf tr dn ln kn ll bo hP (k2 : Int) (by omega)) rfl ⟨Nat.le_of_ble_eq_true rfl, Nat.le_of_ble_eq_true rfl⟩ hl.1 (Nat.le_of_ble_eq_true rfl) rfl ⟨Nat.zero_le _, Nat.zero_le _⟩ dX0_add_24 (fun z u H locs hp w => ?_)
      have w : xA D h g A s s.heap P rel len tl lf tr dn ln kn ll bo H locs := w
      rcases hp with ⟨rfl, k, hk, hk6, hkP⟩ | ⟨rfl, hno⟩
      · obtain rfl : k2 = k := by omega
        have hk2 := hkP
        refine zi_if_ne (tgt := 55) S dX0_add_27 (by decide) (by omega) (fun c12 => ?_) (fun c12 => absurd c12 (by omega))
        refine lv_iinc (v := iI ((k2 + 1 : Nat) : Int)) (lv' := [(4, .int (iI ((k2 + 1 : Nat) : Int))), (0, .ref (h 0)), (1, .int (iI r)), (2, .int (iI q)), (3, .int (iI t))]) S.1 S.2.1 dX0_add_55 hl (k := 4) rfl ((iI_add _ _).trans (congrArg iI (by omega))) (by decide) rfl (fun ls hl => ?_)
        refine lv_goto (tgt := 14) S.1 S.2.1 dX0_add_58 (by decide) ?_
        exact ih _ _ _ _ (by omega) ⟨k2 + 1, rfl, by omega, lt_s hall hk2, w, lv_sub hl [1, 2, 3, 4, 0] rfl⟩
      · have hk2 : P.testBit k2 = false := hno k2 rfl (by omega)
        refine zi_if_ne (tgt := 55) S dX0_add_27 (by decide) (by omega) (fun c13 => absurd c13 (by omega)) (fun c13 => ?_)
        refine lv_aload_n S.1 S.2.1 dX0_add_30 rfl (lv_at hl 0 rfl) ?_
        refine lv_dup S.1 S.2.1 dX0_add_31 rfl ?_
        refine xg_P S w dX0_add_32 ?_
        refine zi_iconst S dX0_add_35 ?_
        refine lv_iload S.1 S.2.1 dX0_add_36 (lv_at hl 4 rfl) ?_
        refine zi_shl1 S k2 (by first | rfl | omega) (by omega) dX0_add_38 ?_
        refine zi_ior S P (2 ^ k2) (by first | rfl | omega) (by first | rfl | omega) dX0_add_39 ?_
        refine xp_P S w (P ||| (2 ^ k2)) (by first | rfl | omega) dX0_add_40 (fun H locs w => ?_)
        refine lv_aload_n S.1 S.2.1 dX0_add_43 rfl (lv_at hl 0 rfl) ?_
        refine lv_iload S.1 S.2.1 dX0_add_44 (lv_at hl 4 rfl) ?_
        refine lv_iload_n S.1 S.2.1 dX0_add_46 rfl (lv_at hl 1 rfl) ?_
        refine lv_iload_n S.1 S.2.1 dX0_add_47 rfl (lv_at hl 2 rfl) ?_
        refine lv_iload_n S.1 S.2.1 dX0_add_48 rfl (lv_at hl 3 rfl) ?_
        refine xcallv [] S w fX_put (mX_put l (P ||| (2 ^ k2)) rel len tl lf tr dn ln kn ll bo k2 (by omega) r q t hok) rfl ⟨Nat.le_of_ble_eq_true rfl, Nat.le_of_ble_eq_true rfl⟩ hl.1 (Nat.le_of_ble_eq_true rfl) rfl ⟨Nat.zero_le _, Nat.zero_le _⟩ dX0_add_49 (fun u H locs hp w => ?_)
        have w : xA D h g A s s.heap (P ||| (2 ^ k2)) (updZ rel k2 r) (updZ len k2 q) (updZ tl k2 t) lf tr dn ln 0 ll bo H locs := w
        refine lv_iload S.1 S.2.1 dX0_add_52 (lv_at hl 4 rfl) ?_
        exact xreti (P ||| 2 ^ k2, updZ rel k2 r, updZ len k2 q, updZ tl k2 t, lf, tr, dn, ln, 0, ll, bo) S hr rfl hlk w (Or.inr (Or.inl ⟨hok, k2, by omega, rfl, hk2, hall, rfl⟩)) dX0_add_54
  · refine zi_if_ne (tgt := 11) S dX0_add_6 (by decide) (by omega) (fun c14 => absurd c14 (by omega)) (fun c14 => ?_)
    refine zi_iconst S dX0_add_9 ?_
    exact xreti (P, rel, len, tl, lf, tr, dn, ln, kn, ll, bo) S hr rfl hlk w (Or.inl ⟨rfl, hok, rfl⟩) dX0_add_10
set_option maxHeartbeats 4000000 in
/-- remove(j) -/
theorem mX_remove (l : Launch) (P : Nat) (rel len tl lf tr dn ln : Nat → Int) (kn ll : Int) (bo : Nat → Int) (hP : P < 64) (j : Int) (hj : -2147483648 ≤ j ∧ j ≤ 2147483647) : CXi l yX0_remove cX0_remove 2 (some .boolean) 1 21 [.int (iI j)] (P, rel, len, tl, lf, tr, dn, ln, kn, ll, bo) (fun z (u : XS) => (z = 1 ∧ ∃ k : Nat, j = (k : Int) ∧ k < 6 ∧ P.testBit k = true ∧ u = (sd P (2 ^ k), rel, len, tl, lf, tr, dn, ln, 0, ll, bo)) ∨ (z = 0 ∧ (∀ k : Nat, j = (k : Int) → k < 6 → P.testBit k = false) ∧ u = (P, rel, len, tl, lf, tr, dn, ln, kn, ll, bo))) (fun u => u) := by
  refine CXi.of (by decide) rfl (fun _ => Nat.le_of_ble_eq_true rfl) ?_
  intro p e s m below meth c D h g A S hr hlk w ls hl
  have hl : lv_has ls 2 [(0, .ref (h 0)), (1, .int (iI j))] := hl
  have w : xA D h g A s s.heap P rel len tl lf tr dn ln kn ll bo s.heap [] := w
  refine lv_aload_n S.1 S.2.1 dX0_remove_0 rfl (lv_at hl 0 rfl) ?_
  refine lv_iload_n S.1 S.2.1 dX0_remove_1 rfl (lv_at hl 1 rfl) ?_
  refine xcalli [] S w fX_has (mX_has l P rel len tl lf tr dn ln kn ll bo hP j (by omega)) rfl ⟨Nat.le_of_ble_eq_true rfl, Nat.le_of_ble_eq_true rfl⟩ hl.1 (Nat.le_of_ble_eq_true rfl) rfl ⟨Nat.zero_le _, Nat.zero_le _⟩ dX0_remove_2 (fun z u H locs hp w => ?_)
  have w : xA D h g A s s.heap P rel len tl lf tr dn ln kn ll bo H locs := w
  rcases hp with ⟨rfl, k, hk, hk6, hkP⟩ | ⟨rfl, hno⟩
  · subst hk
    refine zi_if_ne (tgt := 10) S dX0_remove_5 (by decide) (by omega) (fun c15 => ?_) (fun c15 => absurd c15 (by omega))
    refine lv_aload_n S.1 S.2.1 dX0_remove_10 rfl (lv_at hl 0 rfl) ?_
    refine lv_dup S.1 S.2.1 dX0_remove_11 rfl ?_
    refine xg_P S w dX0_remove_12 ?_
    refine zi_iconst S dX0_remove_15 ?_
    refine lv_iload_n S.1 S.2.1 dX0_remove_16 rfl (lv_at hl 1 rfl) ?_
    refine zi_shl1 S k (by first | rfl | omega) (by omega) dX0_remove_17 ?_
    refine zi_andnot S P (2 ^ k) (by first | rfl | omega) (by first | rfl | omega) dX0_remove_18 dX0_remove_19 dX0_remove_20 ?_
    refine xp_P S w (sd P (2 ^ k)) (by first | rfl | omega) dX0_remove_21 (fun H locs w => ?_)
    refine lv_aload_n S.1 S.2.1 dX0_remove_24 rfl (lv_at hl 0 rfl) ?_
    refine zi_iconst S dX0_remove_25 ?_
    refine xp_kn S w (by omega) dX0_remove_26 (fun H locs w => ?_)
    refine zi_iconst S dX0_remove_29 ?_
    exact xreti (sd P (2 ^ k), rel, len, tl, lf, tr, dn, ln, 0, ll, bo) S hr rfl hlk w (Or.inl ⟨rfl, k, rfl, hk6, hkP, rfl⟩) dX0_remove_30
  · refine zi_if_ne (tgt := 10) S dX0_remove_5 (by decide) (by omega) (fun c16 => absurd c16 (by omega)) (fun c16 => ?_)
    refine zi_iconst S dX0_remove_8 ?_
    exact xreti (P, rel, len, tl, lf, tr, dn, ln, kn, ll, bo) S hr rfl hlk w (Or.inr ⟨rfl, hno, rfl⟩) dX0_remove_9
set_option maxHeartbeats 4000000 in
/-- change(j, r, q, t) -/
theorem mX_change (l : Launch) (P : Nat) (rel len tl lf tr dn ln : Nat → Int) (kn ll : Int) (bo : Nat → Int) (hP : P < 64) (j r q t : Int) (hj : -2147483648 ≤ j ∧ j ≤ 2147483647) (hr0 : -2147483648 ≤ r ∧ r ≤ 2147483647) (hq0 : -2147483648 ≤ q ∧ q ≤ 2147483647) (ht0 : -2147483648 ≤ t ∧ t ≤ 2147483647) : CXi l yX0_change cX0_change 5 (some .boolean) 1 24 [.int (iI j), .int (iI r), .int (iI q), .int (iI t)] (P, rel, len, tl, lf, tr, dn, ln, kn, ll, bo) (fun z (u : XS) => (z = 1 ∧ numOk r q t ∧ ∃ k : Nat, j = (k : Int) ∧ k < 6 ∧ P.testBit k = true ∧ u = (P, updZ rel k r, updZ len k q, updZ tl k t, lf, tr, dn, ln, 0, ll, bo)) ∨ (z = 0 ∧ ¬ (numOk r q t ∧ ∃ k : Nat, j = (k : Int) ∧ k < 6 ∧ P.testBit k = true) ∧ u = (P, rel, len, tl, lf, tr, dn, ln, kn, ll, bo))) (fun u => u) := by
  refine CXi.of (by decide) rfl (fun _ => Nat.le_of_ble_eq_true rfl) ?_
  intro p e s m below meth c D h g A S hr hlk w ls hl
  have hl : lv_has ls 5 [(0, .ref (h 0)), (1, .int (iI j)), (2, .int (iI r)), (3, .int (iI q)), (4, .int (iI t))] := hl
  have w : xA D h g A s s.heap P rel len tl lf tr dn ln kn ll bo s.heap [] := w
  refine lv_aload_n S.1 S.2.1 dX0_change_0 rfl (lv_at hl 0 rfl) ?_
  refine lv_iload_n S.1 S.2.1 dX0_change_1 rfl (lv_at hl 1 rfl) ?_
  refine xcalli [] S w fX_has (mX_has l P rel len tl lf tr dn ln kn ll bo hP j (by omega)) rfl ⟨Nat.le_of_ble_eq_true rfl, Nat.le_of_ble_eq_true rfl⟩ hl.1 (Nat.le_of_ble_eq_true rfl) rfl ⟨Nat.zero_le _, Nat.zero_le _⟩ dX0_change_2 (fun z u H locs hp w => ?_)
  have w : xA D h g A s s.heap P rel len tl lf tr dn ln kn ll bo H locs := w
  rcases hp with ⟨rfl, k, hk, hk6, hkP⟩ | ⟨rfl, hno⟩
  · subst hk
    refine zi_if_eq (tgt := 18) S dX0_change_5 (by decide) (by omega) (fun c17 => absurd c17 (by omega)) (fun c17 => ?_)
    refine lv_iload_n S.1 S.2.1 dX0_change_8 rfl (lv_at hl 2 rfl) ?_
    refine lv_iload_n S.1 S.2.1 dX0_change_9 rfl (lv_at hl 3 rfl) ?_
    refine lv_iload S.1 S.2.1 dX0_change_10 (lv_at hl 4 rfl) ?_
    refine xcalls (n := 3) (u0 := (P, rel, len, tl, lf, tr, dn, ln, kn, ll, bo)) [] S w q77 q78 q26 q79 (by decide +kernel) (mX_numbersOk l r q t (by omega) (by omega) (by omega)) rfl ⟨Nat.le_of_ble_eq_true rfl, Nat.le_of_ble_eq_true rfl⟩ hl.1 (Nat.le_of_ble_eq_true rfl) rfl ⟨Nat.zero_le _, Nat.zero_le _⟩ dX0_change_12 (fun z H locs hp w => ?_)
    have w : xA D h g A s s.heap P rel len tl lf tr dn ln kn ll bo H locs := w
    rcases hp with ⟨rfl, hok⟩ | ⟨rfl, hok⟩
    · refine zi_if_ne (tgt := 20) S dX0_change_15 (by decide) (by omega) (fun c18 => ?_) (fun c18 => absurd c18 (by omega))
      refine lv_aload_n S.1 S.2.1 dX0_change_20 rfl (lv_at hl 0 rfl) ?_
      refine lv_iload_n S.1 S.2.1 dX0_change_21 rfl (lv_at hl 1 rfl) ?_
      refine lv_iload_n S.1 S.2.1 dX0_change_22 rfl (lv_at hl 2 rfl) ?_
      refine lv_iload_n S.1 S.2.1 dX0_change_23 rfl (lv_at hl 3 rfl) ?_
      refine lv_iload S.1 S.2.1 dX0_change_24 (lv_at hl 4 rfl) ?_
      refine xcallv [] S w fX_put (mX_put l P rel len tl lf tr dn ln kn ll bo k (by omega) r q t hok) rfl ⟨Nat.le_of_ble_eq_true rfl, Nat.le_of_ble_eq_true rfl⟩ hl.1 (Nat.le_of_ble_eq_true rfl) rfl ⟨Nat.zero_le _, Nat.zero_le _⟩ dX0_change_26 (fun u H locs hp w => ?_)
      have w : xA D h g A s s.heap P (updZ rel k r) (updZ len k q) (updZ tl k t) lf tr dn ln 0 ll bo H locs := w
      refine zi_iconst S dX0_change_29 ?_
      exact xreti (P, updZ rel k r, updZ len k q, updZ tl k t, lf, tr, dn, ln, 0, ll, bo) S hr rfl hlk w (Or.inl ⟨rfl, hok, k, rfl, hk6, hkP, rfl⟩) dX0_change_30
    · refine zi_if_ne (tgt := 20) S dX0_change_15 (by decide) (by omega) (fun c19 => absurd c19 (by omega)) (fun c19 => ?_)
      refine zi_iconst S dX0_change_18 ?_
      exact xreti (P, rel, len, tl, lf, tr, dn, ln, kn, ll, bo) S hr rfl hlk w (Or.inr ⟨rfl, fun h1 => by first | exact hok h1.1 | (obtain ⟨-, k, e1, e2, e3⟩ := h1; rw [hno k e1 e2] at e3; cases e3), rfl⟩) dX0_change_19
  · refine zi_if_eq (tgt := 18) S dX0_change_5 (by decide) (by omega) (fun c20 => ?_) (fun c20 => absurd c20 (by omega))
    refine zi_iconst S dX0_change_18 ?_
    exact xreti (P, rel, len, tl, lf, tr, dn, ln, kn, ll, bo) S hr rfl hlk w (Or.inr ⟨rfl, fun h1 => by first | exact hok h1.1 | (obtain ⟨-, k, e1, e2, e3⟩ := h1; rw [hno k e1 e2] at e3; cases e3), rfl⟩) dX0_change_19
/-- z is a part of job j -/
def partIs (P : Nat) (rel len tl : Nat → Int) (j t z : Int) : Prop := (∃ k : Nat, j = (k : Int) ∧ k < 6 ∧ P.testBit k = true ∧ ((t = 0 ∧ z = rel k) ∨ (t = 1 ∧ z = len k) ∨ (t = 2 ∧ z = tl k))) ∨ (z = -1 ∧ ¬ ∃ k : Nat, j = (k : Int) ∧ k < 6 ∧ P.testBit k = true ∧ (0 ≤ t ∧ t ≤ 2))
set_option maxHeartbeats 4000000 in
/-- part(j, t) -/
theorem mX_part (l : Launch) (P : Nat) (rel len tl lf tr dn ln : Nat → Int) (kn ll : Int) (bo : Nat → Int) (hP : P < 64) (hd : dOK rel len tl) (j t : Int) (hj : -2147483648 ≤ j ∧ j ≤ 2147483647) (ht0 : -2147483648 ≤ t ∧ t ≤ 2147483647) : CXi l yX0_part cX0_part 3 (some .int) 1 21 [.int (iI j), .int (iI t)] (P, rel, len, tl, lf, tr, dn, ln, kn, ll, bo) (fun z _ => partIs P rel len tl j t z) (fun (_ : Unit) => (P, rel, len, tl, lf, tr, dn, ln, kn, ll, bo)) := by
  refine CXi.of (by decide) rfl (fun _ => Nat.le_of_ble_eq_true rfl) ?_
  intro p e s m below meth c D h g A S hr hlk w ls hl
  have hl : lv_has ls 3 [(0, .ref (h 0)), (1, .int (iI j)), (2, .int (iI t))] := hl
  have w : xA D h g A s s.heap P rel len tl lf tr dn ln kn ll bo s.heap [] := w
  refine lv_aload_n S.1 S.2.1 dX0_part_0 rfl (lv_at hl 0 rfl) ?_
  refine lv_iload_n S.1 S.2.1 dX0_part_1 rfl (lv_at hl 1 rfl) ?_
  refine xcalli [] S w fX_has (mX_has l P rel len tl lf tr dn ln kn ll bo hP j (by omega)) rfl ⟨Nat.le_of_ble_eq_true rfl, Nat.le_of_ble_eq_true rfl⟩ hl.1 (Nat.le_of_ble_eq_true rfl) rfl ⟨Nat.zero_le _, Nat.zero_le _⟩ dX0_part_2 (fun z u H locs hp w => ?_)
  have w : xA D h g A s s.heap P rel len tl lf tr dn ln kn ll bo H locs := w
  rcases hp with ⟨rfl, k, hk, hk6, hkP⟩ | ⟨rfl, hno⟩
  · subst hk
    refine zi_if_eq (tgt := 17) S dX0_part_5 (by decide) (by omega) (fun c21 => absurd c21 (by omega)) (fun c21 => ?_)
    refine lv_iload_n S.1 S.2.1 dX0_part_8 rfl (lv_at hl 2 rfl) ?_
    refine zi_if_lt (tgt := 17) S dX0_part_9 (by decide) (by omega) (fun c22 => ?_) (fun c22 => ?_)
    · refine zi_iconst S dX0_part_17 ?_
      exact xreti () S hr rfl hlk w (Or.inr ⟨rfl, fun h1 => by first | omega | (obtain ⟨k, e1, e2, e3, -⟩ := h1; rw [hno k e1 e2] at e3; cases e3) | (obtain ⟨k, e1, e2, e3, e4⟩ := h1; omega)⟩) dX0_part_18
    · refine lv_iload_n S.1 S.2.1 dX0_part_12 rfl (lv_at hl 2 rfl) ?_
      refine zi_iconst S dX0_part_13 ?_
      refine zi_icmp_le (tgt := 19) S dX0_part_14 (by decide) (by omega) (by omega) (fun c23 => ?_) (fun c23 => ?_)
      · refine lv_iload_n S.1 S.2.1 dX0_part_19 rfl (lv_at hl 2 rfl) ?_
        refine zi_if_ne (tgt := 30) S dX0_part_20 (by decide) (by omega) (fun c24 => ?_) (fun c24 => ?_)
        · refine lv_iload_n S.1 S.2.1 dX0_part_30 rfl (lv_at hl 2 rfl) ?_
          refine zi_iconst S dX0_part_31 ?_
          refine zi_icmp_ne (tgt := 44) S dX0_part_32 (by decide) (by omega) (by omega) (fun c25 => ?_) (fun c25 => ?_)
          · refine lv_aload_n S.1 S.2.1 dX0_part_44 rfl (lv_at hl 0 rfl) ?_
            refine xg_tl S w dX0_part_45 ?_
            refine lv_iload_n S.1 S.2.1 dX0_part_48 rfl (lv_at hl 1 rfl) ?_
            refine xl_tl S w k (by first | rfl | omega) (by omega) dX0_part_49 ?_
            exact xreti () S hr rfl hlk w (Or.inl ⟨k, rfl, hk6, hkP, by omega⟩) dX0_part_50
          · refine lv_aload_n S.1 S.2.1 dX0_part_35 rfl (lv_at hl 0 rfl) ?_
            refine xg_len S w dX0_part_36 ?_
            refine lv_iload_n S.1 S.2.1 dX0_part_39 rfl (lv_at hl 1 rfl) ?_
            refine xl_len S w k (by first | rfl | omega) (by omega) dX0_part_40 ?_
            refine lv_goto (tgt := 50) S.1 S.2.1 dX0_part_41 (by decide) ?_
            exact xreti () S hr rfl hlk w (Or.inl ⟨k, rfl, hk6, hkP, by omega⟩) dX0_part_50
        · refine lv_aload_n S.1 S.2.1 dX0_part_23 rfl (lv_at hl 0 rfl) ?_
          refine xg_rel S w dX0_part_24 ?_
          refine lv_iload_n S.1 S.2.1 dX0_part_27 rfl (lv_at hl 1 rfl) ?_
          refine xl_rel S w k (by first | rfl | omega) (by omega) dX0_part_28 ?_
          exact xreti () S hr rfl hlk w (Or.inl ⟨k, rfl, hk6, hkP, by omega⟩) dX0_part_29
      · refine zi_iconst S dX0_part_17 ?_
        exact xreti () S hr rfl hlk w (Or.inr ⟨rfl, fun h1 => by first | omega | (obtain ⟨k, e1, e2, e3, -⟩ := h1; rw [hno k e1 e2] at e3; cases e3) | (obtain ⟨k, e1, e2, e3, e4⟩ := h1; omega)⟩) dX0_part_18
  · refine zi_if_eq (tgt := 17) S dX0_part_5 (by decide) (by omega) (fun c26 => ?_) (fun c26 => absurd c26 (by omega))
    refine zi_iconst S dX0_part_17 ?_
    exact xreti () S hr rfl hlk w (Or.inr ⟨rfl, fun h1 => by first | omega | (obtain ⟨k, e1, e2, e3, -⟩ := h1; rw [hno k e1 e2] at e3; cases e3) | (obtain ⟨k, e1, e2, e3, e4⟩ := h1; omega)⟩) dX0_part_18
set_option maxHeartbeats 4000000 in
/-- count() -/
theorem mX_count (l : Launch) (P : Nat) (rel len tl lf tr dn ln : Nat → Int) (kn ll : Int) (bo : Nat → Int) (hP : P < 64) : CXi l yX0_count cX0_count 3 (some .int) 0 0 [] (P, rel, len, tl, lf, tr, dn, ln, kn, ll, bo) (fun z _ => z = (cnt P : Int)) (fun (_ : Unit) => (P, rel, len, tl, lf, tr, dn, ln, kn, ll, bo)) := by
  refine CXi.of (by decide) rfl (fun _ => Nat.le_of_ble_eq_true rfl) ?_
  intro p e s m below meth c D h g A S hr hlk w ls hl
  have hl : lv_has ls 3 [(0, .ref (h 0))] := hl
  have w : xA D h g A s s.heap P rel len tl lf tr dn ln kn ll bo s.heap [] := w
  refine zi_iconst S dX0_count_0 ?_
  refine lv_istore_n (lv' := [(1, .int (iI 0)), (0, .ref (h 0))]) S.1 S.2.1 dX0_count_1 rfl hl (by decide) rfl (fun ls hl => ?_)
  refine zi_iconst S dX0_count_2 ?_
  refine lv_istore_n (lv' := [(2, .int (iI 0)), (1, .int (iI 0)), (0, .ref (h 0))]) S.1 S.2.1 dX0_count_3 rfl hl (by decide) rfl (fun ls hl => ?_)
  refine W_loop (fun n H locs ls => ∃ k : Nat, n = 6 - k ∧ k ≤ 6 ∧ xA D h g A s s.heap P rel len tl lf tr dn ln kn ll bo H locs ∧ lv_has ls 3 [(0, .ref (h 0)), (1, .int (iI (fb_ct P.testBit k : Int))), (2, .int (iI (k : Int)))]) 4 ?_ 6 _ _ _ ⟨0, rfl, by omega, w, lv_sub hl [2, 1, 0] rfl⟩
  intro n H locs ls hI ih
  obtain ⟨k, hn, hk6, w, hl⟩ := hI
  refine lv_iload_n S.1 S.2.1 dX0_count_4 rfl (lv_at hl 2 rfl) ?_
  refine zi_bipush S dX0_count_5 (by decide) ?_
  refine zi_icmp_ge (tgt := 27) S dX0_count_7 (by decide) (by omega) (by omega) (fun c27 => ?_) (fun c27 => ?_)
  · refine lv_iload_n S.1 S.2.1 dX0_count_27 rfl (lv_at hl 1 rfl) ?_
    obtain rfl : k = 6 := by omega
    exact xreti () S hr rfl hlk w rfl dX0_count_28
  · refine lv_iload_n S.1 S.2.1 dX0_count_10 rfl (lv_at hl 1 rfl) ?_
    refine lv_aload_n S.1 S.2.1 dX0_count_11 rfl (lv_at hl 0 rfl) ?_
    refine xg_P S w dX0_count_12 ?_
    refine lv_iload_n S.1 S.2.1 dX0_count_15 rfl (lv_at hl 2 rfl) ?_
    refine zi_bit S P k (by first | rfl | omega) (by first | rfl | omega) (by omega) (by omega) dX0_count_16 dX0_count_17 dX0_count_18 ?_
    refine zi_iadd S dX0_count_19 ?_
    refine W_is (fb_ct P.testBit (k + 1) : Int) (by rw [fb_ct_succ, bz_def]; cases P.testBit k <;> simp) ?_
    refine lv_istore_n (lv' := [(1, .int (iI (fb_ct P.testBit (k + 1) : Int))), (0, .ref (h 0)), (2, .int (iI (k : Int)))]) S.1 S.2.1 dX0_count_20 rfl hl (by decide) rfl (fun ls hl => ?_)
    refine lv_iinc (v := iI ((k + 1 : Nat) : Int)) (lv' := [(2, .int (iI ((k + 1 : Nat) : Int))), (1, .int (iI (fb_ct P.testBit (k + 1) : Int))), (0, .ref (h 0))]) S.1 S.2.1 dX0_count_21 hl (k := 2) rfl ((iI_add _ _).trans (congrArg iI (by omega))) (by decide) rfl (fun ls hl => ?_)
    refine lv_goto (tgt := 4) S.1 S.2.1 dX0_count_24 (by decide) ?_
    exact ih _ _ _ _ (by omega) ⟨k + 1, rfl, by omega, w, lv_sub hl [2, 1, 0] rfl⟩
end
section
/-! HeadTail: plans with interruptions, places, the next job -/
set_option maxRecDepth 100000
set_option maxHeartbeats 4000000 in
/-- nextRelease(t) -/
theorem mX_nextRelease (l : Launch) (P : Nat) (rel len tl lf tr dn ln : Nat → Int) (kn ll : Int) (bo : Nat → Int) (hd : dOK rel len tl) (hlf : ∀ i, i < 6 → 0 ≤ lf i ∧ lf i ≤ 12) (t : Int) (ht : 0 ≤ t ∧ t ≤ 100000) : CXi l yX0_nextRelease cX0_nextRelease 4 (some .int) 0 0 [.int (iI t)] (P, rel, len, tl, lf, tr, dn, ln, kn, ll, bo) (fun z _ => nrIs rel lf t 6 z ∧ -1 ≤ z ∧ z ≤ 200) (fun (_ : Unit) => (P, rel, len, tl, lf, tr, dn, ln, kn, ll, bo)) := by
  refine CXi.of (by decide) rfl (fun _ => Nat.le_of_ble_eq_true rfl) ?_
  intro p e s m below meth c D h g A S hr hlk w ls hl
  have hl : lv_has ls 4 [(0, .ref (h 0)), (1, .int (iI t))] := hl
  have w : xA D h g A s s.heap P rel len tl lf tr dn ln kn ll bo s.heap [] := w
  refine zi_iconst S dX0_nextRelease_0 ?_
  refine lv_istore_n (lv' := [(2, .int (iI (-1))), (0, .ref (h 0)), (1, .int (iI t))]) S.1 S.2.1 dX0_nextRelease_1 rfl hl (by decide) rfl (fun ls hl => ?_)
  refine zi_iconst S dX0_nextRelease_2 ?_
  refine lv_istore_n (lv' := [(3, .int (iI 0)), (2, .int (iI (-1))), (0, .ref (h 0)), (1, .int (iI t))]) S.1 S.2.1 dX0_nextRelease_3 rfl hl (by decide) rfl (fun ls hl => ?_)
  refine W_loop (fun n H locs ls => ∃ (k : Nat) (z : Int), n = 6 - k ∧ k ≤ 6 ∧ nrIs rel lf t k z ∧ (-1 ≤ z ∧ z ≤ 200) ∧ xA D h g A s s.heap P rel len tl lf tr dn ln kn ll bo H locs ∧ lv_has ls 4 [(0, .ref (h 0)), (1, .int (iI t)), (2, .int (iI z)), (3, .int (iI (k : Int)))]) 4 ?_ 6 _ _ _ ⟨0, -1, rfl, by omega, Or.inl ⟨rfl, fun i hi => absurd hi (by omega)⟩, by omega, w, lv_sub hl [2, 3, 1, 0] rfl⟩
  intro n H locs ls hI ih
  obtain ⟨k, z, hn, hk6, hinv, hz, w, hl⟩ := hI
  refine lv_iload_n S.1 S.2.1 dX0_nextRelease_4 rfl (lv_at hl 3 rfl) ?_
  refine zi_bipush S dX0_nextRelease_5 (by decide) ?_
  refine zi_icmp_ge (tgt := 56) S dX0_nextRelease_7 (by decide) (by omega) (by omega) (fun c28 => ?_) (fun c28 => ?_)
  · refine lv_iload_n S.1 S.2.1 dX0_nextRelease_56 rfl (lv_at hl 2 rfl) ?_
    obtain rfl : k = 6 := by omega
    exact xreti () S hr rfl hlk w ⟨hinv, hz⟩ dX0_nextRelease_57
  · have hdk := hd k (by omega)
    have hlfk := hlf k (by omega)
    refine lv_aload_n S.1 S.2.1 dX0_nextRelease_10 rfl (lv_at hl 0 rfl) ?_
    refine xg_lf S w dX0_nextRelease_11 ?_
    refine lv_iload_n S.1 S.2.1 dX0_nextRelease_14 rfl (lv_at hl 3 rfl) ?_
    refine xl_lf S w k (by first | rfl | omega) (by omega) dX0_nextRelease_15 ?_
    refine zi_if_le (tgt := 50) S dX0_nextRelease_16 (by decide) (by omega) (fun c29 => ?_) (fun c29 => ?_)
    · refine lv_iinc (v := iI ((k + 1 : Nat) : Int)) (lv' := [(3, .int (iI ((k + 1 : Nat) : Int))), (0, .ref (h 0)), (1, .int (iI t)), (2, .int (iI z))]) S.1 S.2.1 dX0_nextRelease_50 hl (k := 3) rfl ((iI_add _ _).trans (congrArg iI (by omega))) (by decide) rfl (fun ls hl => ?_)
      refine lv_goto (tgt := 4) S.1 S.2.1 dX0_nextRelease_53 (by decide) ?_
      exact ih _ _ _ _ (by omega) ⟨k + 1, z, rfl, by omega, nr_skip hinv (Or.inl c29), by omega, w, lv_sub hl [1, 2, 3, 0] rfl⟩
    · refine lv_aload_n S.1 S.2.1 dX0_nextRelease_19 rfl (lv_at hl 0 rfl) ?_
      refine xg_rel S w dX0_nextRelease_20 ?_
      refine lv_iload_n S.1 S.2.1 dX0_nextRelease_23 rfl (lv_at hl 3 rfl) ?_
      refine xl_rel S w k (by first | rfl | omega) (by omega) dX0_nextRelease_24 ?_
      refine lv_iload_n S.1 S.2.1 dX0_nextRelease_25 rfl (lv_at hl 1 rfl) ?_
      refine zi_icmp_le (tgt := 50) S dX0_nextRelease_26 (by decide) (by omega) (by omega) (fun c30 => ?_) (fun c30 => ?_)
      · refine lv_iinc (v := iI ((k + 1 : Nat) : Int)) (lv' := [(3, .int (iI ((k + 1 : Nat) : Int))), (0, .ref (h 0)), (1, .int (iI t)), (2, .int (iI z))]) S.1 S.2.1 dX0_nextRelease_50 hl (k := 3) rfl ((iI_add _ _).trans (congrArg iI (by omega))) (by decide) rfl (fun ls hl => ?_)
        refine lv_goto (tgt := 4) S.1 S.2.1 dX0_nextRelease_53 (by decide) ?_
        exact ih _ _ _ _ (by omega) ⟨k + 1, z, rfl, by omega, nr_skip hinv (Or.inr (Or.inl c30)), by omega, w, lv_sub hl [1, 2, 3, 0] rfl⟩
      · refine lv_iload_n S.1 S.2.1 dX0_nextRelease_29 rfl (lv_at hl 2 rfl) ?_
        refine zi_if_lt (tgt := 43) S dX0_nextRelease_30 (by decide) (by omega) (fun c31 => ?_) (fun c31 => ?_)
        · refine lv_aload_n S.1 S.2.1 dX0_nextRelease_43 rfl (lv_at hl 0 rfl) ?_
          refine xg_rel S w dX0_nextRelease_44 ?_
          refine lv_iload_n S.1 S.2.1 dX0_nextRelease_47 rfl (lv_at hl 3 rfl) ?_
          refine xl_rel S w k (by first | rfl | omega) (by omega) dX0_nextRelease_48 ?_
          refine lv_istore_n (lv' := [(2, .int (iI (rel k))), (0, .ref (h 0)), (1, .int (iI t)), (3, .int (iI (k : Int)))]) S.1 S.2.1 dX0_nextRelease_49 rfl hl (by decide) rfl (fun ls hl => ?_)
          refine lv_iinc (v := iI ((k + 1 : Nat) : Int)) (lv' := [(3, .int (iI ((k + 1 : Nat) : Int))), (2, .int (iI (rel k))), (0, .ref (h 0)), (1, .int (iI t))]) S.1 S.2.1 dX0_nextRelease_50 hl (k := 3) rfl ((iI_add _ _).trans (congrArg iI (by omega))) (by decide) rfl (fun ls hl => ?_)
          refine lv_goto (tgt := 4) S.1 S.2.1 dX0_nextRelease_53 (by decide) ?_
          exact ih _ _ _ _ (by omega) ⟨k + 1, (rel k), rfl, by omega, nr_take hinv (by omega) (by omega) (by omega) (Or.inl c31), by omega, w, lv_sub hl [2, 3, 1, 0] rfl⟩
        · refine lv_aload_n S.1 S.2.1 dX0_nextRelease_33 rfl (lv_at hl 0 rfl) ?_
          refine xg_rel S w dX0_nextRelease_34 ?_
          refine lv_iload_n S.1 S.2.1 dX0_nextRelease_37 rfl (lv_at hl 3 rfl) ?_
          refine xl_rel S w k (by first | rfl | omega) (by omega) dX0_nextRelease_38 ?_
          refine lv_iload_n S.1 S.2.1 dX0_nextRelease_39 rfl (lv_at hl 2 rfl) ?_
          refine zi_icmp_ge (tgt := 50) S dX0_nextRelease_40 (by decide) (by omega) (by omega) (fun c32 => ?_) (fun c32 => ?_)
          · refine lv_iinc (v := iI ((k + 1 : Nat) : Int)) (lv' := [(3, .int (iI ((k + 1 : Nat) : Int))), (0, .ref (h 0)), (1, .int (iI t)), (2, .int (iI z))]) S.1 S.2.1 dX0_nextRelease_50 hl (k := 3) rfl ((iI_add _ _).trans (congrArg iI (by omega))) (by decide) rfl (fun ls hl => ?_)
            refine lv_goto (tgt := 4) S.1 S.2.1 dX0_nextRelease_53 (by decide) ?_
            exact ih _ _ _ _ (by omega) ⟨k + 1, z, rfl, by omega, nr_skip hinv (Or.inr (Or.inr (by omega))), by omega, w, lv_sub hl [1, 2, 3, 0] rfl⟩
          · refine lv_aload_n S.1 S.2.1 dX0_nextRelease_43 rfl (lv_at hl 0 rfl) ?_
            refine xg_rel S w dX0_nextRelease_44 ?_
            refine lv_iload_n S.1 S.2.1 dX0_nextRelease_47 rfl (lv_at hl 3 rfl) ?_
            refine xl_rel S w k (by first | rfl | omega) (by omega) dX0_nextRelease_48 ?_
            refine lv_istore_n (lv' := [(2, .int (iI (rel k))), (0, .ref (h 0)), (1, .int (iI t)), (3, .int (iI (k : Int)))]) S.1 S.2.1 dX0_nextRelease_49 rfl hl (by decide) rfl (fun ls hl => ?_)
            refine lv_iinc (v := iI ((k + 1 : Nat) : Int)) (lv' := [(3, .int (iI ((k + 1 : Nat) : Int))), (2, .int (iI (rel k))), (0, .ref (h 0)), (1, .int (iI t))]) S.1 S.2.1 dX0_nextRelease_50 hl (k := 3) rfl ((iI_add _ _).trans (congrArg iI (by omega))) (by decide) rfl (fun ls hl => ?_)
            refine lv_goto (tgt := 4) S.1 S.2.1 dX0_nextRelease_53 (by decide) ?_
            exact ih _ _ _ _ (by omega) ⟨k + 1, (rel k), rfl, by omega, nr_take hinv (by omega) (by omega) (by omega) (Or.inr c32), by omega, w, lv_sub hl [2, 3, 1, 0] rfl⟩
set_option maxHeartbeats 4000000 in
/-- mostUrgent(t) -/
theorem mX_mostUrgent (l : Launch) (P : Nat) (rel len tl lf tr dn ln : Nat → Int) (kn ll : Int) (bo : Nat → Int) (hd : dOK rel len tl) (hlf : ∀ i, i < 6 → 0 ≤ lf i ∧ lf i ≤ 12) (t : Int) (ht : 0 ≤ t ∧ t ≤ 100000) : CXi l yX0_mostUrgent cX0_mostUrgent 4 (some .int) 0 0 [.int (iI t)] (P, rel, len, tl, lf, tr, dn, ln, kn, ll, bo) (fun z _ => muIs rel tl lf t 6 z ∧ -1 ≤ z ∧ z ≤ 200) (fun (_ : Unit) => (P, rel, len, tl, lf, tr, dn, ln, kn, ll, bo)) := by
  refine CXi.of (by decide) rfl (fun _ => Nat.le_of_ble_eq_true rfl) ?_
  intro p e s m below meth c D h g A S hr hlk w ls hl
  have hl : lv_has ls 4 [(0, .ref (h 0)), (1, .int (iI t))] := hl
  have w : xA D h g A s s.heap P rel len tl lf tr dn ln kn ll bo s.heap [] := w
  refine zi_iconst S dX0_mostUrgent_0 ?_
  refine lv_istore_n (lv' := [(2, .int (iI (-1))), (0, .ref (h 0)), (1, .int (iI t))]) S.1 S.2.1 dX0_mostUrgent_1 rfl hl (by decide) rfl (fun ls hl => ?_)
  refine zi_iconst S dX0_mostUrgent_2 ?_
  refine lv_istore_n (lv' := [(3, .int (iI 0)), (2, .int (iI (-1))), (0, .ref (h 0)), (1, .int (iI t))]) S.1 S.2.1 dX0_mostUrgent_3 rfl hl (by decide) rfl (fun ls hl => ?_)
  refine W_loop (fun n H locs ls => ∃ (k : Nat) (z : Int), n = 6 - k ∧ k ≤ 6 ∧ muIs rel tl lf t k z ∧ (-1 ≤ z ∧ z ≤ 200) ∧ xA D h g A s s.heap P rel len tl lf tr dn ln kn ll bo H locs ∧ lv_has ls 4 [(0, .ref (h 0)), (1, .int (iI t)), (2, .int (iI z)), (3, .int (iI (k : Int)))]) 4 ?_ 6 _ _ _ ⟨0, -1, rfl, by omega, Or.inl ⟨rfl, fun i hi => absurd hi (by omega)⟩, by omega, w, lv_sub hl [2, 3, 1, 0] rfl⟩
  intro n H locs ls hI ih
  obtain ⟨k, z, hn, hk6, hinv, hz, w, hl⟩ := hI
  refine lv_iload_n S.1 S.2.1 dX0_mostUrgent_4 rfl (lv_at hl 3 rfl) ?_
  refine zi_bipush S dX0_mostUrgent_5 (by decide) ?_
  refine zi_icmp_ge (tgt := 56) S dX0_mostUrgent_7 (by decide) (by omega) (by omega) (fun c33 => ?_) (fun c33 => ?_)
  · refine lv_iload_n S.1 S.2.1 dX0_mostUrgent_56 rfl (lv_at hl 2 rfl) ?_
    obtain rfl : k = 6 := by omega
    exact xreti () S hr rfl hlk w ⟨hinv, hz⟩ dX0_mostUrgent_57
  · have hdk := hd k (by omega)
    have hlfk := hlf k (by omega)
    refine lv_aload_n S.1 S.2.1 dX0_mostUrgent_10 rfl (lv_at hl 0 rfl) ?_
    refine xg_lf S w dX0_mostUrgent_11 ?_
    refine lv_iload_n S.1 S.2.1 dX0_mostUrgent_14 rfl (lv_at hl 3 rfl) ?_
    refine xl_lf S w k (by first | rfl | omega) (by omega) dX0_mostUrgent_15 ?_
    refine zi_if_le (tgt := 50) S dX0_mostUrgent_16 (by decide) (by omega) (fun c34 => ?_) (fun c34 => ?_)
    · refine lv_iinc (v := iI ((k + 1 : Nat) : Int)) (lv' := [(3, .int (iI ((k + 1 : Nat) : Int))), (0, .ref (h 0)), (1, .int (iI t)), (2, .int (iI z))]) S.1 S.2.1 dX0_mostUrgent_50 hl (k := 3) rfl ((iI_add _ _).trans (congrArg iI (by omega))) (by decide) rfl (fun ls hl => ?_)
      refine lv_goto (tgt := 4) S.1 S.2.1 dX0_mostUrgent_53 (by decide) ?_
      exact ih _ _ _ _ (by omega) ⟨k + 1, z, rfl, by omega, mu_skip hinv (Or.inl c34), by omega, w, lv_sub hl [1, 2, 3, 0] rfl⟩
    · refine lv_aload_n S.1 S.2.1 dX0_mostUrgent_19 rfl (lv_at hl 0 rfl) ?_
      refine xg_rel S w dX0_mostUrgent_20 ?_
      refine lv_iload_n S.1 S.2.1 dX0_mostUrgent_23 rfl (lv_at hl 3 rfl) ?_
      refine xl_rel S w k (by first | rfl | omega) (by omega) dX0_mostUrgent_24 ?_
      refine lv_iload_n S.1 S.2.1 dX0_mostUrgent_25 rfl (lv_at hl 1 rfl) ?_
      refine zi_icmp_gt (tgt := 50) S dX0_mostUrgent_26 (by decide) (by omega) (by omega) (fun c35 => ?_) (fun c35 => ?_)
      · refine lv_iinc (v := iI ((k + 1 : Nat) : Int)) (lv' := [(3, .int (iI ((k + 1 : Nat) : Int))), (0, .ref (h 0)), (1, .int (iI t)), (2, .int (iI z))]) S.1 S.2.1 dX0_mostUrgent_50 hl (k := 3) rfl ((iI_add _ _).trans (congrArg iI (by omega))) (by decide) rfl (fun ls hl => ?_)
        refine lv_goto (tgt := 4) S.1 S.2.1 dX0_mostUrgent_53 (by decide) ?_
        exact ih _ _ _ _ (by omega) ⟨k + 1, z, rfl, by omega, mu_skip hinv (Or.inr (Or.inl c35)), by omega, w, lv_sub hl [1, 2, 3, 0] rfl⟩
      · refine lv_iload_n S.1 S.2.1 dX0_mostUrgent_29 rfl (lv_at hl 2 rfl) ?_
        refine zi_if_lt (tgt := 48) S dX0_mostUrgent_30 (by decide) (by omega) (fun c36 => ?_) (fun c36 => ?_)
        · refine lv_iload_n S.1 S.2.1 dX0_mostUrgent_48 rfl (lv_at hl 3 rfl) ?_
          refine lv_istore_n (lv' := [(2, .int (iI (k : Int))), (0, .ref (h 0)), (1, .int (iI t)), (3, .int (iI (k : Int)))]) S.1 S.2.1 dX0_mostUrgent_49 rfl hl (by decide) rfl (fun ls hl => ?_)
          refine lv_iinc (v := iI ((k + 1 : Nat) : Int)) (lv' := [(3, .int (iI ((k + 1 : Nat) : Int))), (2, .int (iI (k : Int))), (0, .ref (h 0)), (1, .int (iI t))]) S.1 S.2.1 dX0_mostUrgent_50 hl (k := 3) rfl ((iI_add _ _).trans (congrArg iI (by omega))) (by decide) rfl (fun ls hl => ?_)
          refine lv_goto (tgt := 4) S.1 S.2.1 dX0_mostUrgent_53 (by decide) ?_
          exact ih _ _ _ _ (by omega) ⟨k + 1, (k : Int), rfl, by omega, mu_take hinv (by omega) (by omega) (Or.inl c36), by omega, w, lv_sub hl [2, 3, 1, 0] rfl⟩
        · obtain ⟨b, hb, hbk⟩ := mu_nat hinv (by omega)
          subst hb
          have hdb := hd b (by omega)
          refine lv_aload_n S.1 S.2.1 dX0_mostUrgent_33 rfl (lv_at hl 0 rfl) ?_
          refine xg_tl S w dX0_mostUrgent_34 ?_
          refine lv_iload_n S.1 S.2.1 dX0_mostUrgent_37 rfl (lv_at hl 3 rfl) ?_
          refine xl_tl S w k (by first | rfl | omega) (by omega) dX0_mostUrgent_38 ?_
          refine lv_aload_n S.1 S.2.1 dX0_mostUrgent_39 rfl (lv_at hl 0 rfl) ?_
          refine xg_tl S w dX0_mostUrgent_40 ?_
          refine lv_iload_n S.1 S.2.1 dX0_mostUrgent_43 rfl (lv_at hl 2 rfl) ?_
          refine xl_tl S w b (by first | rfl | omega) (by omega) dX0_mostUrgent_44 ?_
          refine zi_icmp_le (tgt := 50) S dX0_mostUrgent_45 (by decide) (by omega) (by omega) (fun c37 => ?_) (fun c37 => ?_)
          · refine lv_iinc (v := iI ((k + 1 : Nat) : Int)) (lv' := [(3, .int (iI ((k + 1 : Nat) : Int))), (0, .ref (h 0)), (1, .int (iI t)), (2, .int (iI (b : Int)))]) S.1 S.2.1 dX0_mostUrgent_50 hl (k := 3) rfl ((iI_add _ _).trans (congrArg iI (by omega))) (by decide) rfl (fun ls hl => ?_)
            refine lv_goto (tgt := 4) S.1 S.2.1 dX0_mostUrgent_53 (by decide) ?_
            exact ih _ _ _ _ (by omega) ⟨k + 1, (b : Int), rfl, by omega, mu_skip hinv (Or.inr (Or.inr ⟨b, rfl, c37⟩)), by omega, w, lv_sub hl [1, 2, 3, 0] rfl⟩
          · refine lv_iload_n S.1 S.2.1 dX0_mostUrgent_48 rfl (lv_at hl 3 rfl) ?_
            refine lv_istore_n (lv' := [(2, .int (iI (k : Int))), (0, .ref (h 0)), (1, .int (iI t)), (3, .int (iI (k : Int)))]) S.1 S.2.1 dX0_mostUrgent_49 rfl hl (by decide) rfl (fun ls hl => ?_)
            refine lv_iinc (v := iI ((k + 1 : Nat) : Int)) (lv' := [(3, .int (iI ((k + 1 : Nat) : Int))), (2, .int (iI (k : Int))), (0, .ref (h 0)), (1, .int (iI t))]) S.1 S.2.1 dX0_mostUrgent_50 hl (k := 3) rfl ((iI_add _ _).trans (congrArg iI (by omega))) (by decide) rfl (fun ls hl => ?_)
            refine lv_goto (tgt := 4) S.1 S.2.1 dX0_mostUrgent_53 (by decide) ?_
            exact ih _ _ _ _ (by omega) ⟨k + 1, (k : Int), rfl, by omega, mu_take hinv (by omega) (by omega) (Or.inr ⟨b, rfl, c37⟩), by omega, w, lv_sub hl [2, 3, 1, 0] rfl⟩
set_option maxHeartbeats 4000000 in
/-- interruptedLength(M, a0) -/
theorem mX_interruptedLength (l : Launch) (P : Nat) (rel len tl lf tr dn ln : Nat → Int) (kn ll : Int) (bo : Nat → Int) (hd : dOK rel len tl) (M : Nat) (hM : M < 64) (h1 : ∀ j, j < 6 → M.testBit j = true → 1 ≤ len j) (a0 : Int) (ha : 0 ≤ a0 ∧ a0 ≤ 2000) : CXi l yX0_interruptedLength cX0_interruptedLength 10 (some .int) 1 23 [.int (iI (M : Int)), .int (iI a0)] (P, rel, len, tl, lf, tr, dn, ln, kn, ll, bo) (fun z (_ : Nat → Int) => jpsIs rel len tl M a0 z ∧ 0 ≤ z ∧ z ≤ 100000) (fun lf2 => (P, rel, len, tl, lf2, tr, dn, ln, kn, ll, bo)) := by
  refine CXi.of (by decide) rfl (fun _ => Nat.le_of_ble_eq_true rfl) ?_
  intro p e s m below meth c D h g A S hr hlk w ls hl
  have hl : lv_has ls 10 [(0, .ref (h 0)), (1, .int (iI (M : Int))), (2, .int (iI a0))] := hl
  have w : xA D h g A s s.heap P rel len tl lf tr dn ln kn ll bo s.heap [] := w
  refine zi_iconst S dX0_interruptedLength_0 ?_
  refine lv_istore_n (lv' := [(3, .int (iI 0)), (0, .ref (h 0)), (1, .int (iI (M : Int))), (2, .int (iI a0))]) S.1 S.2.1 dX0_interruptedLength_1 rfl hl (by decide) rfl (fun ls hl => ?_)
  have hlf0 := lfi_0 len lf M
  refine W_loop (fun n H locs ls => ∃ (k : Nat), n = 6 - k ∧ k ≤ 6 ∧ xA D h g A s s.heap P rel len tl (lfi len lf M k) tr dn ln kn ll bo H locs ∧ lv_has ls 10 [(0, .ref (h 0)), (1, .int (iI (M : Int))), (2, .int (iI a0)), (3, .int (iI (k : Int)))]) 2 ?_ 6 _ _ _ ⟨0, rfl, by omega, by rw [lfi_0]; exact w, lv_sub hl [1, 2, 3, 0] rfl⟩
  intro n H locs ls hI ih
  obtain ⟨k, hn, hk6, w, hl⟩ := hI
  refine lv_iload_n S.1 S.2.1 dX0_interruptedLength_2 rfl (lv_at hl 3 rfl) ?_
  refine zi_bipush S dX0_interruptedLength_3 (by decide) ?_
  refine zi_icmp_ge (tgt := 38) S dX0_interruptedLength_5 (by decide) (by omega) (by omega) (fun c38 => ?_) (fun c38 => ?_)
  · obtain rfl : k = 6 := by omega
    refine lv_iload_n S.1 S.2.1 dX0_interruptedLength_38 rfl (lv_at hl 2 rfl) ?_
    refine lv_istore_n (lv' := [(3, .int (iI a0)), (0, .ref (h 0)), (1, .int (iI (M : Int))), (2, .int (iI a0))]) S.1 S.2.1 dX0_interruptedLength_39 rfl hl (by decide) rfl (fun ls hl => ?_)
    refine zi_iconst S dX0_interruptedLength_40 ?_
    refine lv_istore (lv' := [(4, .int (iI 0)), (3, .int (iI a0)), (0, .ref (h 0)), (1, .int (iI (M : Int))), (2, .int (iI a0))]) S.1 S.2.1 dX0_interruptedLength_41 hl (by decide) rfl (fun ls hl => ?_)
    refine zi_iconst S dX0_interruptedLength_43 ?_
    refine lv_istore (lv' := [(5, .int (iI 0)), (4, .int (iI 0)), (3, .int (iI a0)), (0, .ref (h 0)), (1, .int (iI (M : Int))), (2, .int (iI a0))]) S.1 S.2.1 dX0_interruptedLength_44 hl (by decide) rfl (fun ls hl => ?_)
    refine W_loop (fun n H locs ls => ∃ (rd : Nat) (t L : Int) (lfx : Nat → Int), n = 18 - rd ∧ rd ≤ 18 ∧ jInv rel len tl M a0 t L lfx ∧ jMu rel lfx t ≤ 18 - rd ∧ (0 ≤ t ∧ t ≤ 2000 + 12 * rd) ∧ (0 ≤ L ∧ L ≤ 3000 + 12 * rd) ∧ xA D h g A s s.heap P rel len tl lfx tr dn ln kn ll bo H locs ∧ lv_has ls 10 [(0, .ref (h 0)), (1, .int (iI (M : Int))), (2, .int (iI a0)), (3, .int (iI t)), (4, .int (iI L)), (5, .int (iI (rd : Int)))]) 46 ?_ 18 _ _ _ ⟨0, a0, 0, lfi len lf M 6, rfl, by omega, j_init h1 (lfi_6 len lf M), by have := jMu_12 rel (lfi len lf M 6) a0; omega, by omega, by omega, w, lv_sub hl [3, 4, 5, 2, 1, 0] rfl⟩
    clear ih
    intro n H locs ls hI ih
    obtain ⟨rd, t, L, lfx, hn, hrd, hJ, hmu, ht, hL, w, hl⟩ := hI
    have hlf := j_lf hd hJ
    refine lv_iload S.1 S.2.1 dX0_interruptedLength_46 (lv_at hl 5 rfl) ?_
    refine zi_bipush S dX0_interruptedLength_48 (by decide) ?_
    refine zi_icmp_ge (tgt := 178) S dX0_interruptedLength_50 (by decide) (by omega) (by omega) (fun c39 => ?_) (fun c39 => ?_)
    · refine lv_iload S.1 S.2.1 dX0_interruptedLength_178 (lv_at hl 4 rfl) ?_
      exact xreti lfx S hr rfl hlk w ⟨j_end hJ (jMu_0 (rel := rel) (t := t) (by omega)), by omega, by omega⟩ dX0_interruptedLength_180
    · refine lv_aload_n S.1 S.2.1 dX0_interruptedLength_53 rfl (lv_at hl 0 rfl) ?_
      refine lv_iload_n S.1 S.2.1 dX0_interruptedLength_54 rfl (lv_at hl 3 rfl) ?_
      refine xcalli [] S w fX_nextRelease (mX_nextRelease l P rel len tl lfx tr dn ln kn ll bo hd hlf t (by omega)) rfl ⟨Nat.le_of_ble_eq_true rfl, Nat.le_of_ble_eq_true rfl⟩ hl.1 (Nat.le_of_ble_eq_true rfl) rfl ⟨Nat.zero_le _, Nat.zero_le _⟩ dX0_interruptedLength_55 (fun z u H locs hp w => ?_)
      obtain ⟨hnr, hz1⟩ := hp
      have w : xA D h g A s s.heap P rel len tl lfx tr dn ln kn ll bo H locs := w
      obtain ⟨z1, rfl⟩ : ∃ z1, z1 = z := ⟨_, rfl⟩
      refine lv_istore (lv' := [(6, .int (iI z1)), (0, .ref (h 0)), (1, .int (iI (M : Int))), (2, .int (iI a0)), (3, .int (iI t)), (4, .int (iI L)), (5, .int (iI (rd : Int)))]) S.1 S.2.1 dX0_interruptedLength_58 hl (by decide) rfl (fun ls hl => ?_)
      refine lv_aload_n S.1 S.2.1 dX0_interruptedLength_60 rfl (lv_at hl 1 rfl) ?_
      refine lv_iload_n S.1 S.2.1 dX0_interruptedLength_61 rfl (lv_at hl 4 rfl) ?_
      refine xcalli [] S w fX_mostUrgent (mX_mostUrgent l P rel len tl lfx tr dn ln kn ll bo hd hlf t (by omega)) rfl ⟨Nat.le_of_ble_eq_true rfl, Nat.le_of_ble_eq_true rfl⟩ hl.1 (Nat.le_of_ble_eq_true rfl) rfl ⟨Nat.zero_le _, Nat.zero_le _⟩ dX0_interruptedLength_62 (fun z u H locs hp w => ?_)
      obtain ⟨hmu2, hz2⟩ := hp
      have w : xA D h g A s s.heap P rel len tl lfx tr dn ln kn ll bo H locs := w
      obtain ⟨z2, rfl⟩ : ∃ z2, z2 = z := ⟨_, rfl⟩
      refine lv_istore (lv' := [(7, .int (iI z2)), (6, .int (iI z1)), (0, .ref (h 0)), (1, .int (iI (M : Int))), (2, .int (iI a0)), (3, .int (iI t)), (4, .int (iI L)), (5, .int (iI (rd : Int)))]) S.1 S.2.1 dX0_interruptedLength_65 hl (by decide) rfl (fun ls hl => ?_)
      refine lv_iload S.1 S.2.1 dX0_interruptedLength_67 (lv_at hl 0 rfl) ?_
      refine zi_if_lt (tgt := 164) S dX0_interruptedLength_69 (by decide) (by omega) (fun c40 => ?_) (fun c40 => ?_)
      · have hnone : ∀ i, i < 6 → 0 < lfx i → t < rel i := by
          rcases hmu2 with ⟨-, q⟩ | ⟨j, q, -⟩
          · exact q
          · omega
        refine lv_iload S.1 S.2.1 dX0_interruptedLength_164 (lv_at hl 1 rfl) ?_
        refine zi_if_lt (tgt := 172) S dX0_interruptedLength_166 (by decide) (by omega) (fun c41 => ?_) (fun c41 => ?_)
        · have hall0 : ∀ i, i < 6 → ¬ 0 < lfx i := by
            intro i hi hl0
            have q1 := hnone i hi hl0
            rcases hnr with ⟨-, q⟩ | ⟨q, -⟩
            · have := q i hi hl0
              omega
            · omega
          refine lv_iinc (v := iI ((rd + 1 : Nat) : Int)) (lv' := [(5, .int (iI ((rd + 1 : Nat) : Int))), (7, .int (iI z2)), (6, .int (iI z1)), (0, .ref (h 0)), (1, .int (iI (M : Int))), (2, .int (iI a0)), (3, .int (iI t)), (4, .int (iI L))]) S.1 S.2.1 dX0_interruptedLength_172 hl (k := 7) rfl ((iI_add _ _).trans (congrArg iI (by omega))) (by decide) rfl (fun ls hl => ?_)
          refine lv_goto (tgt := 46) S.1 S.2.1 dX0_interruptedLength_175 (by decide) ?_
          refine ih _ _ _ _ (by omega) ⟨rd + 1, t, L, lfx, rfl, by omega, ?_, ?_, by omega, by omega, w, lv_sub hl [3, 4, 5, 6, 7, 0] rfl⟩
          · exact hJ
          · rw [jMu_none hall0]; omega
        · obtain ⟨hn1, ⟨i0, hi0, hl0, hr0⟩, hmin⟩ : t < z1 ∧ (∃ i, i < 6 ∧ 0 < lfx i ∧ rel i = z1) ∧ ∀ i, i < 6 → 0 < lfx i → t < rel i → z1 ≤ rel i := by
            rcases hnr with ⟨q, -⟩ | ⟨-, q⟩
            · omega
            · exact q
          refine lv_iload S.1 S.2.1 dX0_interruptedLength_169 (lv_at hl 1 rfl) ?_
          refine lv_istore_n (lv' := [(3, .int (iI z1)), (7, .int (iI z2)), (6, .int (iI z1)), (0, .ref (h 0)), (1, .int (iI (M : Int))), (2, .int (iI a0)), (4, .int (iI L)), (5, .int (iI (rd : Int)))]) S.1 S.2.1 dX0_interruptedLength_171 rfl hl (by decide) rfl (fun ls hl => ?_)
          refine lv_iinc (v := iI ((rd + 1 : Nat) : Int)) (lv' := [(5, .int (iI ((rd + 1 : Nat) : Int))), (3, .int (iI z1)), (7, .int (iI z2)), (6, .int (iI z1)), (0, .ref (h 0)), (1, .int (iI (M : Int))), (2, .int (iI a0)), (4, .int (iI L))]) S.1 S.2.1 dX0_interruptedLength_172 hl (k := 7) rfl ((iI_add _ _).trans (congrArg iI (by omega))) (by decide) rfl (fun ls hl => ?_)
          refine lv_goto (tgt := 46) S.1 S.2.1 dX0_interruptedLength_175 (by decide) ?_
          refine ih _ _ _ _ (by omega) ⟨rd + 1, z1, L, lfx, rfl, by omega, ?_, ?_, by omega, by omega, w, lv_sub hl [4, 5, 6, 1, 7, 0] rfl⟩
          · exact j_wait hJ hn1 (fun i hi hl0 => hmin i hi hl0 (hnone i hi hl0))
          · have := j_wait_mu (rel := rel) (lf := lfx) hi0 hl0 (by omega) hr0 hn1; omega
      · obtain ⟨j, hj, hj6, hjl, hjr, hjm⟩ : ∃ j : Nat, z2 = (j : Int) ∧ j < 6 ∧ 0 < lfx j ∧ rel j ≤ t ∧ ∀ i, i < 6 → 0 < lfx i → rel i ≤ t → tl i ≤ tl j := by
          rcases hmu2 with ⟨q, -⟩ | q
          · omega
          · exact q
        subst hj
        have hdj := hd j hj6
        have hlfj := hlf j hj6
        refine lv_aload_n S.1 S.2.1 dX0_interruptedLength_72 rfl (lv_at hl 2 rfl) ?_
        refine xg_lf S w dX0_interruptedLength_73 ?_
        refine lv_iload S.1 S.2.1 dX0_interruptedLength_76 (lv_at hl 0 rfl) ?_
        refine xl_lf S w j (by first | rfl | omega) (by omega) dX0_interruptedLength_78 ?_
        refine lv_istore (lv' := [(8, .int (iI (lfx j))), (7, .int (iI (j : Int))), (6, .int (iI z1)), (0, .ref (h 0)), (1, .int (iI (M : Int))), (2, .int (iI a0)), (3, .int (iI t)), (4, .int (iI L)), (5, .int (iI (rd : Int)))]) S.1 S.2.1 dX0_interruptedLength_79 hl (by decide) rfl (fun ls hl => ?_)
        refine lv_iload S.1 S.2.1 dX0_interruptedLength_81 (lv_at hl 2 rfl) ?_
        refine zi_if_lt (tgt := 101) S dX0_interruptedLength_83 (by decide) (by omega) (fun c42 => ?_) (fun c42 => ?_)
        · have hno : ∀ i, i < 6 → 0 < lfx i → rel i ≤ t := by
            rcases hnr with ⟨-, q⟩ | ⟨q, -⟩
            · exact q
            · omega
          have hw3 : ∀ i, i < 6 → 0 < lfx i → t < rel i → t + (lfx j) ≤ rel i := fun i hi hl0 ht0 => by have := hno i hi hl0; omega
          have hw4 : (lfx j) = lfx j ∨ ∃ i, i < 6 ∧ 0 < lfx i ∧ t < rel i ∧ rel i = t + (lfx j) := Or.inl rfl
          have hw1 : 0 < (lfx j) := by omega
          have hw2 : (lfx j) ≤ lfx j := by omega
          have hJ2 := j_work hJ hj6 hjl hjr hjm hw1 hw2 hw3
          have hM2 := j_work_mu hj6 hjl hjr hw1 hw2 hw4
          refine lv_aload_n S.1 S.2.1 dX0_interruptedLength_101 rfl (lv_at hl 3 rfl) ?_
          refine xg_lf S w dX0_interruptedLength_102 ?_
          refine lv_iload S.1 S.2.1 dX0_interruptedLength_105 (lv_at hl 1 rfl) ?_
          refine lv_aload_n S.1 S.2.1 dX0_interruptedLength_107 rfl (lv_at hl 3 rfl) ?_
          refine xg_lf S w dX0_interruptedLength_108 ?_
          refine lv_iload S.1 S.2.1 dX0_interruptedLength_111 (lv_at hl 1 rfl) ?_
          refine xl_lf S w j (by first | rfl | omega) (by omega) dX0_interruptedLength_113 ?_
          refine lv_iload S.1 S.2.1 dX0_interruptedLength_114 (lv_at hl 0 rfl) ?_
          refine zi_isub S dX0_interruptedLength_116 ?_
          refine zi_i2s S (by omega) dX0_interruptedLength_117 ?_
          refine xs_lf S w j (by first | rfl | omega) (by omega) (by omega) dX0_interruptedLength_118 (fun H locs w => ?_)
          refine lv_iload_n S.1 S.2.1 dX0_interruptedLength_119 rfl (lv_at hl 6 rfl) ?_
          refine lv_iload S.1 S.2.1 dX0_interruptedLength_120 (lv_at hl 0 rfl) ?_
          refine zi_iadd S dX0_interruptedLength_122 ?_
          refine lv_istore_n (lv' := [(3, .int (iI (t + (lfx j)))), (8, .int (iI (lfx j))), (7, .int (iI (j : Int))), (6, .int (iI z1)), (0, .ref (h 0)), (1, .int (iI (M : Int))), (2, .int (iI a0)), (4, .int (iI L)), (5, .int (iI (rd : Int)))]) S.1 S.2.1 dX0_interruptedLength_123 rfl hl (by decide) rfl (fun ls hl => ?_)
          refine lv_iload_n S.1 S.2.1 dX0_interruptedLength_124 rfl (lv_at hl 0 rfl) ?_
          refine lv_aload_n S.1 S.2.1 dX0_interruptedLength_125 rfl (lv_at hl 4 rfl) ?_
          refine xg_tl S w dX0_interruptedLength_126 ?_
          refine lv_iload S.1 S.2.1 dX0_interruptedLength_129 (lv_at hl 2 rfl) ?_
          refine xl_tl S w j (by first | rfl | omega) (by omega) dX0_interruptedLength_131 ?_
          refine zi_iadd S dX0_interruptedLength_132 ?_
          refine lv_istore (lv' := [(9, .int (iI ((t + (lfx j)) + (tl j)))), (3, .int (iI (t + (lfx j)))), (8, .int (iI (lfx j))), (7, .int (iI (j : Int))), (6, .int (iI z1)), (0, .ref (h 0)), (1, .int (iI (M : Int))), (2, .int (iI a0)), (4, .int (iI L)), (5, .int (iI (rd : Int)))]) S.1 S.2.1 dX0_interruptedLength_133 hl (by decide) rfl (fun ls hl => ?_)
          refine lv_aload_n S.1 S.2.1 dX0_interruptedLength_135 rfl (lv_at hl 5 rfl) ?_
          refine xg_lf S w dX0_interruptedLength_136 ?_
          refine lv_iload S.1 S.2.1 dX0_interruptedLength_139 (lv_at hl 3 rfl) ?_
          refine xl_lf S w j (by first | rfl | omega) (by omega) dX0_interruptedLength_141 ?_
          refine W_is (lfx j - (lfx j)) (updZ_s _ _ _) ?_
          refine zi_if_ne (tgt := 157) S dX0_interruptedLength_142 (by decide) (by omega) (fun c43 => ?_) (fun c43 => ?_)
          · refine lv_iload S.1 S.2.1 dX0_interruptedLength_157 (lv_at hl 8 rfl) ?_
            refine lv_istore (lv' := [(4, .int (iI L)), (9, .int (iI ((t + (lfx j)) + (tl j)))), (3, .int (iI (t + (lfx j)))), (8, .int (iI (lfx j))), (7, .int (iI (j : Int))), (6, .int (iI z1)), (0, .ref (h 0)), (1, .int (iI (M : Int))), (2, .int (iI a0)), (5, .int (iI (rd : Int)))]) S.1 S.2.1 dX0_interruptedLength_159 hl (by decide) rfl (fun ls hl => ?_)
            refine lv_goto (tgt := 172) S.1 S.2.1 dX0_interruptedLength_161 (by decide) ?_
            refine lv_iinc (v := iI ((rd + 1 : Nat) : Int)) (lv' := [(5, .int (iI ((rd + 1 : Nat) : Int))), (4, .int (iI L)), (9, .int (iI ((t + (lfx j)) + (tl j)))), (3, .int (iI (t + (lfx j)))), (8, .int (iI (lfx j))), (7, .int (iI (j : Int))), (6, .int (iI z1)), (0, .ref (h 0)), (1, .int (iI (M : Int))), (2, .int (iI a0))]) S.1 S.2.1 dX0_interruptedLength_172 hl (k := 9) rfl ((iI_add _ _).trans (congrArg iI (by omega))) (by decide) rfl (fun ls hl => ?_)
            refine lv_goto (tgt := 46) S.1 S.2.1 dX0_interruptedLength_175 (by decide) ?_
            refine ih _ _ _ _ (by omega) ⟨rd + 1, (t + (lfx j)), L, (updZ lfx j ((lfx j) - (lfx j))), rfl, by omega, ?_, ?_, by omega, by omega, w, lv_sub hl [7, 8, 9, 3, 1, 0] rfl⟩
            · rw [if_neg (fun q => by omega)] at hJ2
              exact hJ2
            · omega
          · refine lv_iload S.1 S.2.1 dX0_interruptedLength_145 (lv_at hl 0 rfl) ?_
            refine lv_iload S.1 S.2.1 dX0_interruptedLength_147 (lv_at hl 8 rfl) ?_
            refine zi_icmp_le (tgt := 157) S dX0_interruptedLength_149 (by decide) (by omega) (by omega) (fun c44 => ?_) (fun c44 => ?_)
            · refine lv_iload S.1 S.2.1 dX0_interruptedLength_157 (lv_at hl 8 rfl) ?_
              refine lv_istore (lv' := [(4, .int (iI L)), (9, .int (iI ((t + (lfx j)) + (tl j)))), (3, .int (iI (t + (lfx j)))), (8, .int (iI (lfx j))), (7, .int (iI (j : Int))), (6, .int (iI z1)), (0, .ref (h 0)), (1, .int (iI (M : Int))), (2, .int (iI a0)), (5, .int (iI (rd : Int)))]) S.1 S.2.1 dX0_interruptedLength_159 hl (by decide) rfl (fun ls hl => ?_)
              refine lv_goto (tgt := 172) S.1 S.2.1 dX0_interruptedLength_161 (by decide) ?_
              refine lv_iinc (v := iI ((rd + 1 : Nat) : Int)) (lv' := [(5, .int (iI ((rd + 1 : Nat) : Int))), (4, .int (iI L)), (9, .int (iI ((t + (lfx j)) + (tl j)))), (3, .int (iI (t + (lfx j)))), (8, .int (iI (lfx j))), (7, .int (iI (j : Int))), (6, .int (iI z1)), (0, .ref (h 0)), (1, .int (iI (M : Int))), (2, .int (iI a0))]) S.1 S.2.1 dX0_interruptedLength_172 hl (k := 9) rfl ((iI_add _ _).trans (congrArg iI (by omega))) (by decide) rfl (fun ls hl => ?_)
              refine lv_goto (tgt := 46) S.1 S.2.1 dX0_interruptedLength_175 (by decide) ?_
              refine ih _ _ _ _ (by omega) ⟨rd + 1, (t + (lfx j)), L, (updZ lfx j ((lfx j) - (lfx j))), rfl, by omega, ?_, ?_, by omega, by omega, w, lv_sub hl [7, 8, 9, 3, 1, 0] rfl⟩
              · rw [if_neg (fun q => by omega)] at hJ2
                exact hJ2
              · omega
            · refine lv_iload S.1 S.2.1 dX0_interruptedLength_152 (lv_at hl 0 rfl) ?_
              refine lv_goto (tgt := 159) S.1 S.2.1 dX0_interruptedLength_154 (by decide) ?_
              refine lv_istore (lv' := [(4, .int (iI ((t + (lfx j)) + (tl j)))), (9, .int (iI ((t + (lfx j)) + (tl j)))), (3, .int (iI (t + (lfx j)))), (8, .int (iI (lfx j))), (7, .int (iI (j : Int))), (6, .int (iI z1)), (0, .ref (h 0)), (1, .int (iI (M : Int))), (2, .int (iI a0)), (5, .int (iI (rd : Int)))]) S.1 S.2.1 dX0_interruptedLength_159 hl (by decide) rfl (fun ls hl => ?_)
              refine lv_goto (tgt := 172) S.1 S.2.1 dX0_interruptedLength_161 (by decide) ?_
              refine lv_iinc (v := iI ((rd + 1 : Nat) : Int)) (lv' := [(5, .int (iI ((rd + 1 : Nat) : Int))), (4, .int (iI ((t + (lfx j)) + (tl j)))), (9, .int (iI ((t + (lfx j)) + (tl j)))), (3, .int (iI (t + (lfx j)))), (8, .int (iI (lfx j))), (7, .int (iI (j : Int))), (6, .int (iI z1)), (0, .ref (h 0)), (1, .int (iI (M : Int))), (2, .int (iI a0))]) S.1 S.2.1 dX0_interruptedLength_172 hl (k := 9) rfl ((iI_add _ _).trans (congrArg iI (by omega))) (by decide) rfl (fun ls hl => ?_)
              refine lv_goto (tgt := 46) S.1 S.2.1 dX0_interruptedLength_175 (by decide) ?_
              refine ih _ _ _ _ (by omega) ⟨rd + 1, (t + (lfx j)), ((t + (lfx j)) + (tl j)), (updZ lfx j ((lfx j) - (lfx j))), rfl, by omega, ?_, ?_, by omega, by omega, w, lv_sub hl [7, 8, 9, 3, 1, 0] rfl⟩
              · rw [if_pos ⟨by omega, by omega⟩] at hJ2
                exact hJ2
              · omega
        · refine lv_iload_n S.1 S.2.1 dX0_interruptedLength_86 rfl (lv_at hl 6 rfl) ?_
          refine lv_iload S.1 S.2.1 dX0_interruptedLength_87 (lv_at hl 0 rfl) ?_
          refine zi_iadd S dX0_interruptedLength_89 ?_
          refine lv_iload S.1 S.2.1 dX0_interruptedLength_90 (lv_at hl 2 rfl) ?_
          refine zi_icmp_le (tgt := 101) S dX0_interruptedLength_92 (by decide) (by omega) (by omega) (fun c45 => ?_) (fun c45 => ?_)
          · obtain ⟨hn1, ⟨i0, hi0, hl0, hr0⟩, hmin⟩ : t < z1 ∧ (∃ i, i < 6 ∧ 0 < lfx i ∧ rel i = z1) ∧ ∀ i, i < 6 → 0 < lfx i → t < rel i → z1 ≤ rel i := by
              rcases hnr with ⟨q, -⟩ | ⟨-, q⟩
              · omega
              · exact q
            have hw3 : ∀ i, i < 6 → 0 < lfx i → t < rel i → t + (lfx j) ≤ rel i := fun i hi hl0 ht0 => by have := hmin i hi hl0 ht0; omega
            have hw4 : (lfx j) = lfx j ∨ ∃ i, i < 6 ∧ 0 < lfx i ∧ t < rel i ∧ rel i = t + (lfx j) := Or.inl rfl
            have hw1 : 0 < (lfx j) := by omega
            have hw2 : (lfx j) ≤ lfx j := by omega
            have hJ2 := j_work hJ hj6 hjl hjr hjm hw1 hw2 hw3
            have hM2 := j_work_mu hj6 hjl hjr hw1 hw2 hw4
            refine lv_aload_n S.1 S.2.1 dX0_interruptedLength_101 rfl (lv_at hl 3 rfl) ?_
            refine xg_lf S w dX0_interruptedLength_102 ?_
            refine lv_iload S.1 S.2.1 dX0_interruptedLength_105 (lv_at hl 1 rfl) ?_
            refine lv_aload_n S.1 S.2.1 dX0_interruptedLength_107 rfl (lv_at hl 3 rfl) ?_
            refine xg_lf S w dX0_interruptedLength_108 ?_
            refine lv_iload S.1 S.2.1 dX0_interruptedLength_111 (lv_at hl 1 rfl) ?_
            refine xl_lf S w j (by first | rfl | omega) (by omega) dX0_interruptedLength_113 ?_
            refine lv_iload S.1 S.2.1 dX0_interruptedLength_114 (lv_at hl 0 rfl) ?_
            refine zi_isub S dX0_interruptedLength_116 ?_
            refine zi_i2s S (by omega) dX0_interruptedLength_117 ?_
            refine xs_lf S w j (by first | rfl | omega) (by omega) (by omega) dX0_interruptedLength_118 (fun H locs w => ?_)
            refine lv_iload_n S.1 S.2.1 dX0_interruptedLength_119 rfl (lv_at hl 6 rfl) ?_
            refine lv_iload S.1 S.2.1 dX0_interruptedLength_120 (lv_at hl 0 rfl) ?_
            refine zi_iadd S dX0_interruptedLength_122 ?_
            refine lv_istore_n (lv' := [(3, .int (iI (t + (lfx j)))), (8, .int (iI (lfx j))), (7, .int (iI (j : Int))), (6, .int (iI z1)), (0, .ref (h 0)), (1, .int (iI (M : Int))), (2, .int (iI a0)), (4, .int (iI L)), (5, .int (iI (rd : Int)))]) S.1 S.2.1 dX0_interruptedLength_123 rfl hl (by decide) rfl (fun ls hl => ?_)
            refine lv_iload_n S.1 S.2.1 dX0_interruptedLength_124 rfl (lv_at hl 0 rfl) ?_
            refine lv_aload_n S.1 S.2.1 dX0_interruptedLength_125 rfl (lv_at hl 4 rfl) ?_
            refine xg_tl S w dX0_interruptedLength_126 ?_
            refine lv_iload S.1 S.2.1 dX0_interruptedLength_129 (lv_at hl 2 rfl) ?_
            refine xl_tl S w j (by first | rfl | omega) (by omega) dX0_interruptedLength_131 ?_
            refine zi_iadd S dX0_interruptedLength_132 ?_
            refine lv_istore (lv' := [(9, .int (iI ((t + (lfx j)) + (tl j)))), (3, .int (iI (t + (lfx j)))), (8, .int (iI (lfx j))), (7, .int (iI (j : Int))), (6, .int (iI z1)), (0, .ref (h 0)), (1, .int (iI (M : Int))), (2, .int (iI a0)), (4, .int (iI L)), (5, .int (iI (rd : Int)))]) S.1 S.2.1 dX0_interruptedLength_133 hl (by decide) rfl (fun ls hl => ?_)
            refine lv_aload_n S.1 S.2.1 dX0_interruptedLength_135 rfl (lv_at hl 5 rfl) ?_
            refine xg_lf S w dX0_interruptedLength_136 ?_
            refine lv_iload S.1 S.2.1 dX0_interruptedLength_139 (lv_at hl 3 rfl) ?_
            refine xl_lf S w j (by first | rfl | omega) (by omega) dX0_interruptedLength_141 ?_
            refine W_is (lfx j - (lfx j)) (updZ_s _ _ _) ?_
            refine zi_if_ne (tgt := 157) S dX0_interruptedLength_142 (by decide) (by omega) (fun c46 => ?_) (fun c46 => ?_)
            · refine lv_iload S.1 S.2.1 dX0_interruptedLength_157 (lv_at hl 8 rfl) ?_
              refine lv_istore (lv' := [(4, .int (iI L)), (9, .int (iI ((t + (lfx j)) + (tl j)))), (3, .int (iI (t + (lfx j)))), (8, .int (iI (lfx j))), (7, .int (iI (j : Int))), (6, .int (iI z1)), (0, .ref (h 0)), (1, .int (iI (M : Int))), (2, .int (iI a0)), (5, .int (iI (rd : Int)))]) S.1 S.2.1 dX0_interruptedLength_159 hl (by decide) rfl (fun ls hl => ?_)
              refine lv_goto (tgt := 172) S.1 S.2.1 dX0_interruptedLength_161 (by decide) ?_
              refine lv_iinc (v := iI ((rd + 1 : Nat) : Int)) (lv' := [(5, .int (iI ((rd + 1 : Nat) : Int))), (4, .int (iI L)), (9, .int (iI ((t + (lfx j)) + (tl j)))), (3, .int (iI (t + (lfx j)))), (8, .int (iI (lfx j))), (7, .int (iI (j : Int))), (6, .int (iI z1)), (0, .ref (h 0)), (1, .int (iI (M : Int))), (2, .int (iI a0))]) S.1 S.2.1 dX0_interruptedLength_172 hl (k := 9) rfl ((iI_add _ _).trans (congrArg iI (by omega))) (by decide) rfl (fun ls hl => ?_)
              refine lv_goto (tgt := 46) S.1 S.2.1 dX0_interruptedLength_175 (by decide) ?_
              refine ih _ _ _ _ (by omega) ⟨rd + 1, (t + (lfx j)), L, (updZ lfx j ((lfx j) - (lfx j))), rfl, by omega, ?_, ?_, by omega, by omega, w, lv_sub hl [7, 8, 9, 3, 1, 0] rfl⟩
              · rw [if_neg (fun q => by omega)] at hJ2
                exact hJ2
              · omega
            · refine lv_iload S.1 S.2.1 dX0_interruptedLength_145 (lv_at hl 0 rfl) ?_
              refine lv_iload S.1 S.2.1 dX0_interruptedLength_147 (lv_at hl 8 rfl) ?_
              refine zi_icmp_le (tgt := 157) S dX0_interruptedLength_149 (by decide) (by omega) (by omega) (fun c47 => ?_) (fun c47 => ?_)
              · refine lv_iload S.1 S.2.1 dX0_interruptedLength_157 (lv_at hl 8 rfl) ?_
                refine lv_istore (lv' := [(4, .int (iI L)), (9, .int (iI ((t + (lfx j)) + (tl j)))), (3, .int (iI (t + (lfx j)))), (8, .int (iI (lfx j))), (7, .int (iI (j : Int))), (6, .int (iI z1)), (0, .ref (h 0)), (1, .int (iI (M : Int))), (2, .int (iI a0)), (5, .int (iI (rd : Int)))]) S.1 S.2.1 dX0_interruptedLength_159 hl (by decide) rfl (fun ls hl => ?_)
                refine lv_goto (tgt := 172) S.1 S.2.1 dX0_interruptedLength_161 (by decide) ?_
                refine lv_iinc (v := iI ((rd + 1 : Nat) : Int)) (lv' := [(5, .int (iI ((rd + 1 : Nat) : Int))), (4, .int (iI L)), (9, .int (iI ((t + (lfx j)) + (tl j)))), (3, .int (iI (t + (lfx j)))), (8, .int (iI (lfx j))), (7, .int (iI (j : Int))), (6, .int (iI z1)), (0, .ref (h 0)), (1, .int (iI (M : Int))), (2, .int (iI a0))]) S.1 S.2.1 dX0_interruptedLength_172 hl (k := 9) rfl ((iI_add _ _).trans (congrArg iI (by omega))) (by decide) rfl (fun ls hl => ?_)
                refine lv_goto (tgt := 46) S.1 S.2.1 dX0_interruptedLength_175 (by decide) ?_
                refine ih _ _ _ _ (by omega) ⟨rd + 1, (t + (lfx j)), L, (updZ lfx j ((lfx j) - (lfx j))), rfl, by omega, ?_, ?_, by omega, by omega, w, lv_sub hl [7, 8, 9, 3, 1, 0] rfl⟩
                · rw [if_neg (fun q => by omega)] at hJ2
                  exact hJ2
                · omega
              · refine lv_iload S.1 S.2.1 dX0_interruptedLength_152 (lv_at hl 0 rfl) ?_
                refine lv_goto (tgt := 159) S.1 S.2.1 dX0_interruptedLength_154 (by decide) ?_
                refine lv_istore (lv' := [(4, .int (iI ((t + (lfx j)) + (tl j)))), (9, .int (iI ((t + (lfx j)) + (tl j)))), (3, .int (iI (t + (lfx j)))), (8, .int (iI (lfx j))), (7, .int (iI (j : Int))), (6, .int (iI z1)), (0, .ref (h 0)), (1, .int (iI (M : Int))), (2, .int (iI a0)), (5, .int (iI (rd : Int)))]) S.1 S.2.1 dX0_interruptedLength_159 hl (by decide) rfl (fun ls hl => ?_)
                refine lv_goto (tgt := 172) S.1 S.2.1 dX0_interruptedLength_161 (by decide) ?_
                refine lv_iinc (v := iI ((rd + 1 : Nat) : Int)) (lv' := [(5, .int (iI ((rd + 1 : Nat) : Int))), (4, .int (iI ((t + (lfx j)) + (tl j)))), (9, .int (iI ((t + (lfx j)) + (tl j)))), (3, .int (iI (t + (lfx j)))), (8, .int (iI (lfx j))), (7, .int (iI (j : Int))), (6, .int (iI z1)), (0, .ref (h 0)), (1, .int (iI (M : Int))), (2, .int (iI a0))]) S.1 S.2.1 dX0_interruptedLength_172 hl (k := 9) rfl ((iI_add _ _).trans (congrArg iI (by omega))) (by decide) rfl (fun ls hl => ?_)
                refine lv_goto (tgt := 46) S.1 S.2.1 dX0_interruptedLength_175 (by decide) ?_
                refine ih _ _ _ _ (by omega) ⟨rd + 1, (t + (lfx j)), ((t + (lfx j)) + (tl j)), (updZ lfx j ((lfx j) - (lfx j))), rfl, by omega, ?_, ?_, by omega, by omega, w, lv_sub hl [7, 8, 9, 3, 1, 0] rfl⟩
                · rw [if_pos ⟨by omega, by omega⟩] at hJ2
                  exact hJ2
                · omega
          · refine lv_iload S.1 S.2.1 dX0_interruptedLength_95 (lv_at hl 2 rfl) ?_
            refine lv_iload_n S.1 S.2.1 dX0_interruptedLength_97 rfl (lv_at hl 6 rfl) ?_
            refine zi_isub S dX0_interruptedLength_98 ?_
            refine lv_istore (lv' := [(8, .int (iI (z1 - t))), (7, .int (iI (j : Int))), (6, .int (iI z1)), (0, .ref (h 0)), (1, .int (iI (M : Int))), (2, .int (iI a0)), (3, .int (iI t)), (4, .int (iI L)), (5, .int (iI (rd : Int)))]) S.1 S.2.1 dX0_interruptedLength_99 hl (by decide) rfl (fun ls hl => ?_)
            obtain ⟨hn1, ⟨i0, hi0, hl0, hr0⟩, hmin⟩ : t < z1 ∧ (∃ i, i < 6 ∧ 0 < lfx i ∧ rel i = z1) ∧ ∀ i, i < 6 → 0 < lfx i → t < rel i → z1 ≤ rel i := by
              rcases hnr with ⟨q, -⟩ | ⟨-, q⟩
              · omega
              · exact q
            have hw3 : ∀ i, i < 6 → 0 < lfx i → t < rel i → t + (z1 - t) ≤ rel i := fun i hi hl0 ht0 => by have := hmin i hi hl0 ht0; omega
            have hw4 : (z1 - t) = lfx j ∨ ∃ i, i < 6 ∧ 0 < lfx i ∧ t < rel i ∧ rel i = t + (z1 - t) := Or.inr ⟨i0, hi0, hl0, by omega, by omega⟩
            have hw1 : 0 < (z1 - t) := by omega
            have hw2 : (z1 - t) ≤ lfx j := by omega
            have hJ2 := j_work hJ hj6 hjl hjr hjm hw1 hw2 hw3
            have hM2 := j_work_mu hj6 hjl hjr hw1 hw2 hw4
            refine lv_aload_n S.1 S.2.1 dX0_interruptedLength_101 rfl (lv_at hl 3 rfl) ?_
            refine xg_lf S w dX0_interruptedLength_102 ?_
            refine lv_iload S.1 S.2.1 dX0_interruptedLength_105 (lv_at hl 1 rfl) ?_
            refine lv_aload_n S.1 S.2.1 dX0_interruptedLength_107 rfl (lv_at hl 3 rfl) ?_
            refine xg_lf S w dX0_interruptedLength_108 ?_
            refine lv_iload S.1 S.2.1 dX0_interruptedLength_111 (lv_at hl 1 rfl) ?_
            refine xl_lf S w j (by first | rfl | omega) (by omega) dX0_interruptedLength_113 ?_
            refine lv_iload S.1 S.2.1 dX0_interruptedLength_114 (lv_at hl 0 rfl) ?_
            refine zi_isub S dX0_interruptedLength_116 ?_
            refine zi_i2s S (by omega) dX0_interruptedLength_117 ?_
            refine xs_lf S w j (by first | rfl | omega) (by omega) (by omega) dX0_interruptedLength_118 (fun H locs w => ?_)
            refine lv_iload_n S.1 S.2.1 dX0_interruptedLength_119 rfl (lv_at hl 6 rfl) ?_
            refine lv_iload S.1 S.2.1 dX0_interruptedLength_120 (lv_at hl 0 rfl) ?_
            refine zi_iadd S dX0_interruptedLength_122 ?_
            refine lv_istore_n (lv' := [(3, .int (iI (t + (z1 - t)))), (8, .int (iI (z1 - t))), (7, .int (iI (j : Int))), (6, .int (iI z1)), (0, .ref (h 0)), (1, .int (iI (M : Int))), (2, .int (iI a0)), (4, .int (iI L)), (5, .int (iI (rd : Int)))]) S.1 S.2.1 dX0_interruptedLength_123 rfl hl (by decide) rfl (fun ls hl => ?_)
            refine lv_iload_n S.1 S.2.1 dX0_interruptedLength_124 rfl (lv_at hl 0 rfl) ?_
            refine lv_aload_n S.1 S.2.1 dX0_interruptedLength_125 rfl (lv_at hl 4 rfl) ?_
            refine xg_tl S w dX0_interruptedLength_126 ?_
            refine lv_iload S.1 S.2.1 dX0_interruptedLength_129 (lv_at hl 2 rfl) ?_
            refine xl_tl S w j (by first | rfl | omega) (by omega) dX0_interruptedLength_131 ?_
            refine zi_iadd S dX0_interruptedLength_132 ?_
            refine lv_istore (lv' := [(9, .int (iI ((t + (z1 - t)) + (tl j)))), (3, .int (iI (t + (z1 - t)))), (8, .int (iI (z1 - t))), (7, .int (iI (j : Int))), (6, .int (iI z1)), (0, .ref (h 0)), (1, .int (iI (M : Int))), (2, .int (iI a0)), (4, .int (iI L)), (5, .int (iI (rd : Int)))]) S.1 S.2.1 dX0_interruptedLength_133 hl (by decide) rfl (fun ls hl => ?_)
            refine lv_aload_n S.1 S.2.1 dX0_interruptedLength_135 rfl (lv_at hl 5 rfl) ?_
            refine xg_lf S w dX0_interruptedLength_136 ?_
            refine lv_iload S.1 S.2.1 dX0_interruptedLength_139 (lv_at hl 3 rfl) ?_
            refine xl_lf S w j (by first | rfl | omega) (by omega) dX0_interruptedLength_141 ?_
            refine W_is (lfx j - (z1 - t)) (updZ_s _ _ _) ?_
            refine zi_if_ne (tgt := 157) S dX0_interruptedLength_142 (by decide) (by omega) (fun c48 => ?_) (fun c48 => ?_)
            · refine lv_iload S.1 S.2.1 dX0_interruptedLength_157 (lv_at hl 8 rfl) ?_
              refine lv_istore (lv' := [(4, .int (iI L)), (9, .int (iI ((t + (z1 - t)) + (tl j)))), (3, .int (iI (t + (z1 - t)))), (8, .int (iI (z1 - t))), (7, .int (iI (j : Int))), (6, .int (iI z1)), (0, .ref (h 0)), (1, .int (iI (M : Int))), (2, .int (iI a0)), (5, .int (iI (rd : Int)))]) S.1 S.2.1 dX0_interruptedLength_159 hl (by decide) rfl (fun ls hl => ?_)
              refine lv_goto (tgt := 172) S.1 S.2.1 dX0_interruptedLength_161 (by decide) ?_
              refine lv_iinc (v := iI ((rd + 1 : Nat) : Int)) (lv' := [(5, .int (iI ((rd + 1 : Nat) : Int))), (4, .int (iI L)), (9, .int (iI ((t + (z1 - t)) + (tl j)))), (3, .int (iI (t + (z1 - t)))), (8, .int (iI (z1 - t))), (7, .int (iI (j : Int))), (6, .int (iI z1)), (0, .ref (h 0)), (1, .int (iI (M : Int))), (2, .int (iI a0))]) S.1 S.2.1 dX0_interruptedLength_172 hl (k := 9) rfl ((iI_add _ _).trans (congrArg iI (by omega))) (by decide) rfl (fun ls hl => ?_)
              refine lv_goto (tgt := 46) S.1 S.2.1 dX0_interruptedLength_175 (by decide) ?_
              refine ih _ _ _ _ (by omega) ⟨rd + 1, (t + (z1 - t)), L, (updZ lfx j ((lfx j) - (z1 - t))), rfl, by omega, ?_, ?_, by omega, by omega, w, lv_sub hl [7, 8, 9, 3, 1, 0] rfl⟩
              · rw [if_neg (fun q => by omega)] at hJ2
                exact hJ2
              · omega
            · refine lv_iload S.1 S.2.1 dX0_interruptedLength_145 (lv_at hl 0 rfl) ?_
              refine lv_iload S.1 S.2.1 dX0_interruptedLength_147 (lv_at hl 8 rfl) ?_
              refine zi_icmp_le (tgt := 157) S dX0_interruptedLength_149 (by decide) (by omega) (by omega) (fun c49 => ?_) (fun c49 => ?_)
              · refine lv_iload S.1 S.2.1 dX0_interruptedLength_157 (lv_at hl 8 rfl) ?_
                refine lv_istore (lv' := [(4, .int (iI L)), (9, .int (iI ((t + (z1 - t)) + (tl j)))), (3, .int (iI (t + (z1 - t)))), (8, .int (iI (z1 - t))), (7, .int (iI (j : Int))), (6, .int (iI z1)), (0, .ref (h 0)), (1, .int (iI (M : Int))), (2, .int (iI a0)), (5, .int (iI (rd : Int)))]) S.1 S.2.1 dX0_interruptedLength_159 hl (by decide) rfl (fun ls hl => ?_)
                refine lv_goto (tgt := 172) S.1 S.2.1 dX0_interruptedLength_161 (by decide) ?_
                refine lv_iinc (v := iI ((rd + 1 : Nat) : Int)) (lv' := [(5, .int (iI ((rd + 1 : Nat) : Int))), (4, .int (iI L)), (9, .int (iI ((t + (z1 - t)) + (tl j)))), (3, .int (iI (t + (z1 - t)))), (8, .int (iI (z1 - t))), (7, .int (iI (j : Int))), (6, .int (iI z1)), (0, .ref (h 0)), (1, .int (iI (M : Int))), (2, .int (iI a0))]) S.1 S.2.1 dX0_interruptedLength_172 hl (k := 9) rfl ((iI_add _ _).trans (congrArg iI (by omega))) (by decide) rfl (fun ls hl => ?_)
                refine lv_goto (tgt := 46) S.1 S.2.1 dX0_interruptedLength_175 (by decide) ?_
                refine ih _ _ _ _ (by omega) ⟨rd + 1, (t + (z1 - t)), L, (updZ lfx j ((lfx j) - (z1 - t))), rfl, by omega, ?_, ?_, by omega, by omega, w, lv_sub hl [7, 8, 9, 3, 1, 0] rfl⟩
                · rw [if_neg (fun q => by omega)] at hJ2
                  exact hJ2
                · omega
              · refine lv_iload S.1 S.2.1 dX0_interruptedLength_152 (lv_at hl 0 rfl) ?_
                refine lv_goto (tgt := 159) S.1 S.2.1 dX0_interruptedLength_154 (by decide) ?_
                refine lv_istore (lv' := [(4, .int (iI ((t + (z1 - t)) + (tl j)))), (9, .int (iI ((t + (z1 - t)) + (tl j)))), (3, .int (iI (t + (z1 - t)))), (8, .int (iI (z1 - t))), (7, .int (iI (j : Int))), (6, .int (iI z1)), (0, .ref (h 0)), (1, .int (iI (M : Int))), (2, .int (iI a0)), (5, .int (iI (rd : Int)))]) S.1 S.2.1 dX0_interruptedLength_159 hl (by decide) rfl (fun ls hl => ?_)
                refine lv_goto (tgt := 172) S.1 S.2.1 dX0_interruptedLength_161 (by decide) ?_
                refine lv_iinc (v := iI ((rd + 1 : Nat) : Int)) (lv' := [(5, .int (iI ((rd + 1 : Nat) : Int))), (4, .int (iI ((t + (z1 - t)) + (tl j)))), (9, .int (iI ((t + (z1 - t)) + (tl j)))), (3, .int (iI (t + (z1 - t)))), (8, .int (iI (z1 - t))), (7, .int (iI (j : Int))), (6, .int (iI z1)), (0, .ref (h 0)), (1, .int (iI (M : Int))), (2, .int (iI a0))]) S.1 S.2.1 dX0_interruptedLength_172 hl (k := 9) rfl ((iI_add _ _).trans (congrArg iI (by omega))) (by decide) rfl (fun ls hl => ?_)
                refine lv_goto (tgt := 46) S.1 S.2.1 dX0_interruptedLength_175 (by decide) ?_
                refine ih _ _ _ _ (by omega) ⟨rd + 1, (t + (z1 - t)), ((t + (z1 - t)) + (tl j)), (updZ lfx j ((lfx j) - (z1 - t))), rfl, by omega, ?_, ?_, by omega, by omega, w, lv_sub hl [7, 8, 9, 3, 1, 0] rfl⟩
                · rw [if_pos ⟨by omega, by omega⟩] at hJ2
                  exact hJ2
                · omega
  · have hdk := hd k (by omega)
    refine lv_aload_n S.1 S.2.1 dX0_interruptedLength_8 rfl (lv_at hl 0 rfl) ?_
    refine xg_lf S w dX0_interruptedLength_9 ?_
    refine lv_iload_n S.1 S.2.1 dX0_interruptedLength_12 rfl (lv_at hl 3 rfl) ?_
    refine lv_iload_n S.1 S.2.1 dX0_interruptedLength_13 rfl (lv_at hl 1 rfl) ?_
    refine lv_iload_n S.1 S.2.1 dX0_interruptedLength_14 rfl (lv_at hl 3 rfl) ?_
    refine zi_bit S M k (by first | rfl | omega) (by first | rfl | omega) (by omega) (by omega) dX0_interruptedLength_15 dX0_interruptedLength_16 dX0_interruptedLength_17 ?_
    have hbz := bz_r M k
    refine zi_if_eq (tgt := 30) S dX0_interruptedLength_18 (by decide) (by omega) (fun c50 => ?_) (fun c50 => ?_)
    · have c50 : (M).testBit k = false := bz_0.mp c50
      refine zi_iconst S dX0_interruptedLength_30 ?_
      refine xs_lf S w k (by first | rfl | omega) (by omega) (by omega) dX0_interruptedLength_31 (fun H locs w => ?_)
      refine lv_iinc (v := iI ((k + 1 : Nat) : Int)) (lv' := [(3, .int (iI ((k + 1 : Nat) : Int))), (0, .ref (h 0)), (1, .int (iI (M : Int))), (2, .int (iI a0))]) S.1 S.2.1 dX0_interruptedLength_32 hl (k := 3) rfl ((iI_add _ _).trans (congrArg iI (by omega))) (by decide) rfl (fun ls hl => ?_)
      refine lv_goto (tgt := 2) S.1 S.2.1 dX0_interruptedLength_35 (by decide) ?_
      rw [lfi_f c50] at w
      exact ih _ _ _ _ (by omega) ⟨k + 1, rfl, by omega, w, lv_sub hl [1, 2, 3, 0] rfl⟩
    · have c50 : (M).testBit k = true := bz_n0 c50
      refine lv_aload_n S.1 S.2.1 dX0_interruptedLength_21 rfl (lv_at hl 0 rfl) ?_
      refine xg_len S w dX0_interruptedLength_22 ?_
      refine lv_iload_n S.1 S.2.1 dX0_interruptedLength_25 rfl (lv_at hl 3 rfl) ?_
      refine xl_len S w k (by first | rfl | omega) (by omega) dX0_interruptedLength_26 ?_
      refine lv_goto (tgt := 31) S.1 S.2.1 dX0_interruptedLength_27 (by decide) ?_
      refine xs_lf S w k (by first | rfl | omega) (by omega) (by omega) dX0_interruptedLength_31 (fun H locs w => ?_)
      refine lv_iinc (v := iI ((k + 1 : Nat) : Int)) (lv' := [(3, .int (iI ((k + 1 : Nat) : Int))), (0, .ref (h 0)), (1, .int (iI (M : Int))), (2, .int (iI a0))]) S.1 S.2.1 dX0_interruptedLength_32 hl (k := 3) rfl ((iI_add _ _).trans (congrArg iI (by omega))) (by decide) rfl (fun ls hl => ?_)
      refine lv_goto (tgt := 2) S.1 S.2.1 dX0_interruptedLength_35 (by decide) ?_
      rw [lfi_t c50] at w
      exact ih _ _ _ _ (by omega) ⟨k + 1, rfl, by omega, w, lv_sub hl [1, 2, 3, 0] rfl⟩
set_option maxHeartbeats 4000000 in
/-- place(lv, j) -/
theorem mX_place (l : Launch) (P : Nat) (rel len tl lf tr dn ln : Nat → Int) (kn ll : Int) (bo : Nat → Int) (hd : dOK rel len tl) (lv j : Nat) (hlv : lv < 7) (hj : j < 6) (hdn : 0 ≤ dn lv ∧ dn lv ≤ 5000) (hln : 0 ≤ ln lv ∧ ln lv ≤ 5000) : CXv l yX0_place cX0_place 6 0 0 [.int (iI (lv : Int)), .int (iI (j : Int))] (P, rel, len, tl, lf, tr, dn, ln, kn, ll, bo) (fun _ => True) (fun (_ : Unit) => (P, rel, len, tl, lf, updZ tr lv (j : Int), updZ dn (lv + 1) (nx rel len (dn lv) j), updZ ln (lv + 1) (max (ln lv) ((nx rel len (dn lv) j) + tl j)), kn, ll, bo)) := by
  refine CXv.of (by decide) rfl (fun _ => Nat.le_of_ble_eq_true rfl) ?_
  intro p e s m below meth c D h g A S hr hlk w ls hl
  have hl : lv_has ls 6 [(0, .ref (h 0)), (1, .int (iI (lv : Int))), (2, .int (iI (j : Int)))] := hl
  have w : xA D h g A s s.heap P rel len tl lf tr dn ln kn ll bo s.heap [] := w
  have hdj := hd j hj
  refine lv_aload_n S.1 S.2.1 dX0_place_0 rfl (lv_at hl 0 rfl) ?_
  refine xg_tr S w dX0_place_1 ?_
  refine lv_iload_n S.1 S.2.1 dX0_place_4 rfl (lv_at hl 1 rfl) ?_
  refine lv_iload_n S.1 S.2.1 dX0_place_5 rfl (lv_at hl 2 rfl) ?_
  refine zi_i2b S (by omega) dX0_place_6 ?_
  refine xs_tr S w lv (by first | rfl | omega) (by omega) (by omega) dX0_place_7 (fun H locs w => ?_)
  refine lv_aload_n S.1 S.2.1 dX0_place_8 rfl (lv_at hl 0 rfl) ?_
  refine xg_dn S w dX0_place_9 ?_
  refine lv_iload_n S.1 S.2.1 dX0_place_12 rfl (lv_at hl 1 rfl) ?_
  refine xl_dn S w lv (by first | rfl | omega) (by omega) dX0_place_13 ?_
  refine lv_aload_n S.1 S.2.1 dX0_place_14 rfl (lv_at hl 0 rfl) ?_
  refine xg_rel S w dX0_place_15 ?_
  refine lv_iload_n S.1 S.2.1 dX0_place_18 rfl (lv_at hl 2 rfl) ?_
  refine xl_rel S w j (by first | rfl | omega) (by omega) dX0_place_19 ?_
  refine zi_icmp_le (tgt := 32) S dX0_place_20 (by decide) (by omega) (by omega) (fun c51 => ?_) (fun c51 => ?_)
  · refine lv_aload_n S.1 S.2.1 dX0_place_32 rfl (lv_at hl 0 rfl) ?_
    refine xg_rel S w dX0_place_33 ?_
    refine lv_iload_n S.1 S.2.1 dX0_place_36 rfl (lv_at hl 2 rfl) ?_
    refine xl_rel S w j (by first | rfl | omega) (by omega) dX0_place_37 ?_
    refine W_is (max (dn lv) (rel j)) (by omega) ?_
    refine lv_istore_n (lv' := [(3, .int (iI (max (dn lv) (rel j)))), (0, .ref (h 0)), (1, .int (iI (lv : Int))), (2, .int (iI (j : Int)))]) S.1 S.2.1 dX0_place_38 rfl hl (by decide) rfl (fun ls hl => ?_)
    refine lv_iload_n S.1 S.2.1 dX0_place_39 rfl (lv_at hl 0 rfl) ?_
    refine lv_aload_n S.1 S.2.1 dX0_place_40 rfl (lv_at hl 1 rfl) ?_
    refine xg_len S w dX0_place_41 ?_
    refine lv_iload_n S.1 S.2.1 dX0_place_44 rfl (lv_at hl 3 rfl) ?_
    refine xl_len S w j (by first | rfl | omega) (by omega) dX0_place_45 ?_
    refine zi_iadd S dX0_place_46 ?_
    refine W_is (nx rel len (dn lv) j) (rfl) ?_
    refine lv_istore (lv' := [(4, .int (iI (nx rel len (dn lv) j))), (3, .int (iI (max (dn lv) (rel j)))), (0, .ref (h 0)), (1, .int (iI (lv : Int))), (2, .int (iI (j : Int)))]) S.1 S.2.1 dX0_place_47 hl (by decide) rfl (fun ls hl => ?_)
    have hnx : (nx rel len (dn lv) j) = max (dn lv) (rel j) + len j := rfl
    refine lv_iload S.1 S.2.1 dX0_place_49 (lv_at hl 0 rfl) ?_
    refine lv_aload_n S.1 S.2.1 dX0_place_51 rfl (lv_at hl 2 rfl) ?_
    refine xg_tl S w dX0_place_52 ?_
    refine lv_iload_n S.1 S.2.1 dX0_place_55 rfl (lv_at hl 4 rfl) ?_
    refine xl_tl S w j (by first | rfl | omega) (by omega) dX0_place_56 ?_
    refine zi_iadd S dX0_place_57 ?_
    refine lv_istore (lv' := [(5, .int (iI ((nx rel len (dn lv) j) + (tl j)))), (4, .int (iI (nx rel len (dn lv) j))), (3, .int (iI (max (dn lv) (rel j)))), (0, .ref (h 0)), (1, .int (iI (lv : Int))), (2, .int (iI (j : Int)))]) S.1 S.2.1 dX0_place_58 hl (by decide) rfl (fun ls hl => ?_)
    refine lv_aload_n S.1 S.2.1 dX0_place_60 rfl (lv_at hl 3 rfl) ?_
    refine xg_dn S w dX0_place_61 ?_
    refine lv_iload_n S.1 S.2.1 dX0_place_64 rfl (lv_at hl 4 rfl) ?_
    refine zi_iconst S dX0_place_65 ?_
    refine zi_iadd S dX0_place_66 ?_
    refine lv_iload S.1 S.2.1 dX0_place_67 (lv_at hl 1 rfl) ?_
    refine xs_dn S w (lv + 1) (by first | rfl | omega) (by omega) dX0_place_69 (fun H locs w => ?_)
    refine lv_aload_n S.1 S.2.1 dX0_place_70 rfl (lv_at hl 3 rfl) ?_
    refine xg_ln S w dX0_place_71 ?_
    refine lv_iload_n S.1 S.2.1 dX0_place_74 rfl (lv_at hl 4 rfl) ?_
    refine zi_iconst S dX0_place_75 ?_
    refine zi_iadd S dX0_place_76 ?_
    refine lv_iload S.1 S.2.1 dX0_place_77 (lv_at hl 0 rfl) ?_
    refine lv_aload_n S.1 S.2.1 dX0_place_79 rfl (lv_at hl 3 rfl) ?_
    refine xg_ln S w dX0_place_80 ?_
    refine lv_iload_n S.1 S.2.1 dX0_place_83 rfl (lv_at hl 4 rfl) ?_
    refine xl_ln S w lv (by first | rfl | omega) (by omega) dX0_place_84 ?_
    refine zi_icmp_le (tgt := 93) S dX0_place_85 (by decide) (by omega) (by omega) (fun c52 => ?_) (fun c52 => ?_)
    · refine lv_aload_n S.1 S.2.1 dX0_place_93 rfl (lv_at hl 3 rfl) ?_
      refine xg_ln S w dX0_place_94 ?_
      refine lv_iload_n S.1 S.2.1 dX0_place_97 rfl (lv_at hl 4 rfl) ?_
      refine xl_ln S w lv (by first | rfl | omega) (by omega) dX0_place_98 ?_
      refine W_is (max (ln lv) ((nx rel len (dn lv) j) + tl j)) (by omega) ?_
      refine xs_ln S w (lv + 1) (by first | rfl | omega) (by omega) dX0_place_99 (fun H locs w => ?_)
      exact xretv () S hr hlk w trivial dX0_place_100
    · refine lv_iload S.1 S.2.1 dX0_place_88 (lv_at hl 0 rfl) ?_
      refine lv_goto (tgt := 99) S.1 S.2.1 dX0_place_90 (by decide) ?_
      refine W_is (max (ln lv) ((nx rel len (dn lv) j) + tl j)) (by omega) ?_
      refine xs_ln S w (lv + 1) (by first | rfl | omega) (by omega) dX0_place_99 (fun H locs w => ?_)
      exact xretv () S hr hlk w trivial dX0_place_100
  · refine lv_aload_n S.1 S.2.1 dX0_place_23 rfl (lv_at hl 0 rfl) ?_
    refine xg_dn S w dX0_place_24 ?_
    refine lv_iload_n S.1 S.2.1 dX0_place_27 rfl (lv_at hl 1 rfl) ?_
    refine xl_dn S w lv (by first | rfl | omega) (by omega) dX0_place_28 ?_
    refine lv_goto (tgt := 38) S.1 S.2.1 dX0_place_29 (by decide) ?_
    refine W_is (max (dn lv) (rel j)) (by omega) ?_
    refine lv_istore_n (lv' := [(3, .int (iI (max (dn lv) (rel j)))), (0, .ref (h 0)), (1, .int (iI (lv : Int))), (2, .int (iI (j : Int)))]) S.1 S.2.1 dX0_place_38 rfl hl (by decide) rfl (fun ls hl => ?_)
    refine lv_iload_n S.1 S.2.1 dX0_place_39 rfl (lv_at hl 0 rfl) ?_
    refine lv_aload_n S.1 S.2.1 dX0_place_40 rfl (lv_at hl 1 rfl) ?_
    refine xg_len S w dX0_place_41 ?_
    refine lv_iload_n S.1 S.2.1 dX0_place_44 rfl (lv_at hl 3 rfl) ?_
    refine xl_len S w j (by first | rfl | omega) (by omega) dX0_place_45 ?_
    refine zi_iadd S dX0_place_46 ?_
    refine W_is (nx rel len (dn lv) j) (rfl) ?_
    refine lv_istore (lv' := [(4, .int (iI (nx rel len (dn lv) j))), (3, .int (iI (max (dn lv) (rel j)))), (0, .ref (h 0)), (1, .int (iI (lv : Int))), (2, .int (iI (j : Int)))]) S.1 S.2.1 dX0_place_47 hl (by decide) rfl (fun ls hl => ?_)
    have hnx : (nx rel len (dn lv) j) = max (dn lv) (rel j) + len j := rfl
    refine lv_iload S.1 S.2.1 dX0_place_49 (lv_at hl 0 rfl) ?_
    refine lv_aload_n S.1 S.2.1 dX0_place_51 rfl (lv_at hl 2 rfl) ?_
    refine xg_tl S w dX0_place_52 ?_
    refine lv_iload_n S.1 S.2.1 dX0_place_55 rfl (lv_at hl 4 rfl) ?_
    refine xl_tl S w j (by first | rfl | omega) (by omega) dX0_place_56 ?_
    refine zi_iadd S dX0_place_57 ?_
    refine lv_istore (lv' := [(5, .int (iI ((nx rel len (dn lv) j) + (tl j)))), (4, .int (iI (nx rel len (dn lv) j))), (3, .int (iI (max (dn lv) (rel j)))), (0, .ref (h 0)), (1, .int (iI (lv : Int))), (2, .int (iI (j : Int)))]) S.1 S.2.1 dX0_place_58 hl (by decide) rfl (fun ls hl => ?_)
    refine lv_aload_n S.1 S.2.1 dX0_place_60 rfl (lv_at hl 3 rfl) ?_
    refine xg_dn S w dX0_place_61 ?_
    refine lv_iload_n S.1 S.2.1 dX0_place_64 rfl (lv_at hl 4 rfl) ?_
    refine zi_iconst S dX0_place_65 ?_
    refine zi_iadd S dX0_place_66 ?_
    refine lv_iload S.1 S.2.1 dX0_place_67 (lv_at hl 1 rfl) ?_
    refine xs_dn S w (lv + 1) (by first | rfl | omega) (by omega) dX0_place_69 (fun H locs w => ?_)
    refine lv_aload_n S.1 S.2.1 dX0_place_70 rfl (lv_at hl 3 rfl) ?_
    refine xg_ln S w dX0_place_71 ?_
    refine lv_iload_n S.1 S.2.1 dX0_place_74 rfl (lv_at hl 4 rfl) ?_
    refine zi_iconst S dX0_place_75 ?_
    refine zi_iadd S dX0_place_76 ?_
    refine lv_iload S.1 S.2.1 dX0_place_77 (lv_at hl 0 rfl) ?_
    refine lv_aload_n S.1 S.2.1 dX0_place_79 rfl (lv_at hl 3 rfl) ?_
    refine xg_ln S w dX0_place_80 ?_
    refine lv_iload_n S.1 S.2.1 dX0_place_83 rfl (lv_at hl 4 rfl) ?_
    refine xl_ln S w lv (by first | rfl | omega) (by omega) dX0_place_84 ?_
    refine zi_icmp_le (tgt := 93) S dX0_place_85 (by decide) (by omega) (by omega) (fun c53 => ?_) (fun c53 => ?_)
    · refine lv_aload_n S.1 S.2.1 dX0_place_93 rfl (lv_at hl 3 rfl) ?_
      refine xg_ln S w dX0_place_94 ?_
      refine lv_iload_n S.1 S.2.1 dX0_place_97 rfl (lv_at hl 4 rfl) ?_
      refine xl_ln S w lv (by first | rfl | omega) (by omega) dX0_place_98 ?_
      refine W_is (max (ln lv) ((nx rel len (dn lv) j) + tl j)) (by omega) ?_
      refine xs_ln S w (lv + 1) (by first | rfl | omega) (by omega) dX0_place_99 (fun H locs w => ?_)
      exact xretv () S hr hlk w trivial dX0_place_100
    · refine lv_iload S.1 S.2.1 dX0_place_88 (lv_at hl 0 rfl) ?_
      refine lv_goto (tgt := 99) S.1 S.2.1 dX0_place_90 (by decide) ?_
      refine W_is (max (ln lv) ((nx rel len (dn lv) j) + tl j)) (by omega) ?_
      refine xs_ln S w (lv + 1) (by first | rfl | omega) (by omega) dX0_place_99 (fun H locs w => ?_)
      exact xretv () S hr hlk w trivial dX0_place_100
set_option maxHeartbeats 4000000 in
/-- boundFor(lv, M) -/
theorem mX_boundFor (l : Launch) (P : Nat) (rel len tl lf tr dn ln : Nat → Int) (kn ll : Int) (bo : Nat → Int) (hd : dOK rel len tl) (lv M : Nat) (hlv : lv < 8) (hM : M < 64) (h1 : ∀ j, j < 6 → M.testBit j = true → 1 ≤ len j) (hdn : 0 ≤ dn lv ∧ dn lv ≤ 2000) (hln : 0 ≤ ln lv ∧ ln lv ≤ 5000) : CXi l yX0_boundFor cX0_boundFor 4 (some .int) 2 52 [.int (iI (lv : Int)), .int (iI (M : Int))] (P, rel, len, tl, lf, tr, dn, ln, kn, ll, bo) (fun z (_ : Nat → Int) => ∃ z1, jpsIs rel len tl M (dn lv) z1 ∧ (0 ≤ z1 ∧ z1 ≤ 100000) ∧ z = max z1 (ln lv)) (fun lf2 => (P, rel, len, tl, lf2, tr, dn, ln, kn, ll, bo)) := by
  refine CXi.of (by decide) rfl (fun _ => Nat.le_of_ble_eq_true rfl) ?_
  intro p e s m below meth c D h g A S hr hlk w ls hl
  have hl : lv_has ls 4 [(0, .ref (h 0)), (1, .int (iI (lv : Int))), (2, .int (iI (M : Int)))] := hl
  have w : xA D h g A s s.heap P rel len tl lf tr dn ln kn ll bo s.heap [] := w
  refine lv_aload_n S.1 S.2.1 dX0_boundFor_0 rfl (lv_at hl 0 rfl) ?_
  refine lv_iload_n S.1 S.2.1 dX0_boundFor_1 rfl (lv_at hl 2 rfl) ?_
  refine lv_aload_n S.1 S.2.1 dX0_boundFor_2 rfl (lv_at hl 0 rfl) ?_
  refine xg_dn S w dX0_boundFor_3 ?_
  refine lv_iload_n S.1 S.2.1 dX0_boundFor_6 rfl (lv_at hl 1 rfl) ?_
  refine xl_dn S w lv (by first | rfl | omega) (by omega) dX0_boundFor_7 ?_
  refine xcalli [] S w fX_interruptedLength (mX_interruptedLength l P rel len tl lf tr dn ln kn ll bo hd M hM h1 (dn lv) (by omega)) rfl ⟨Nat.le_of_ble_eq_true rfl, Nat.le_of_ble_eq_true rfl⟩ hl.1 (Nat.le_of_ble_eq_true rfl) rfl ⟨Nat.zero_le _, Nat.zero_le _⟩ dX0_boundFor_8 (fun z u H locs hp w => ?_)
  obtain ⟨hj1, hj2⟩ := hp
  obtain ⟨z1, rfl⟩ : ∃ z1, z1 = z := ⟨_, rfl⟩
  have w : xA D h g A s s.heap P rel len tl u tr dn ln kn ll bo H locs := w
  refine lv_istore_n (lv' := [(3, .int (iI z1)), (0, .ref (h 0)), (1, .int (iI (lv : Int))), (2, .int (iI (M : Int)))]) S.1 S.2.1 dX0_boundFor_11 rfl hl (by decide) rfl (fun ls hl => ?_)
  refine lv_iload_n S.1 S.2.1 dX0_boundFor_12 rfl (lv_at hl 0 rfl) ?_
  refine lv_aload_n S.1 S.2.1 dX0_boundFor_13 rfl (lv_at hl 1 rfl) ?_
  refine xg_ln S w dX0_boundFor_14 ?_
  refine lv_iload_n S.1 S.2.1 dX0_boundFor_17 rfl (lv_at hl 2 rfl) ?_
  refine xl_ln S w lv (by first | rfl | omega) (by omega) dX0_boundFor_18 ?_
  refine zi_icmp_le (tgt := 26) S dX0_boundFor_19 (by decide) (by omega) (by omega) (fun c54 => ?_) (fun c54 => ?_)
  · refine lv_aload_n S.1 S.2.1 dX0_boundFor_26 rfl (lv_at hl 1 rfl) ?_
    refine xg_ln S w dX0_boundFor_27 ?_
    refine lv_iload_n S.1 S.2.1 dX0_boundFor_30 rfl (lv_at hl 2 rfl) ?_
    refine xl_ln S w lv (by first | rfl | omega) (by omega) dX0_boundFor_31 ?_
    refine W_is (max z1 (ln lv)) (by omega) ?_
    exact xreti u S hr rfl hlk w ⟨z1, hj1, hj2, rfl⟩ dX0_boundFor_32
  · refine lv_iload_n S.1 S.2.1 dX0_boundFor_22 rfl (lv_at hl 0 rfl) ?_
    refine lv_goto (tgt := 32) S.1 S.2.1 dX0_boundFor_23 (by decide) ?_
    refine W_is (max z1 (ln lv)) (by omega) ?_
    exact xreti u S hr rfl hlk w ⟨z1, hj1, hj2, rfl⟩ dX0_boundFor_32
set_option maxHeartbeats 4000000 in
/-- begin() -/
theorem mX_begin (l : Launch) (P : Nat) (rel len tl lf tr dn ln : Nat → Int) (kn ll : Int) (bo : Nat → Int) : CXv l yX0_begin cX0_begin 1 0 0 [] (P, rel, len, tl, lf, tr, dn, ln, kn, ll, bo) (fun _ => True) (fun (_ : Unit) => (P, rel, len, tl, lf, tr, updZ dn 0 0, updZ ln 0 0, kn, ll, bo)) := by
  refine CXv.of (by decide) rfl (fun _ => Nat.le_of_ble_eq_true rfl) ?_
  intro p e s m below meth c D h g A S hr hlk w ls hl
  have hl : lv_has ls 1 [(0, .ref (h 0))] := hl
  have w : xA D h g A s s.heap P rel len tl lf tr dn ln kn ll bo s.heap [] := w
  refine lv_aload_n S.1 S.2.1 dX0_begin_0 rfl (lv_at hl 0 rfl) ?_
  refine xg_dn S w dX0_begin_1 ?_
  refine zi_iconst S dX0_begin_4 ?_
  refine zi_iconst S dX0_begin_5 ?_
  refine xs_dn S w 0 (by first | rfl | omega) (by omega) dX0_begin_6 (fun H locs w => ?_)
  refine lv_aload_n S.1 S.2.1 dX0_begin_7 rfl (lv_at hl 0 rfl) ?_
  refine xg_ln S w dX0_begin_8 ?_
  refine zi_iconst S dX0_begin_11 ?_
  refine zi_iconst S dX0_begin_12 ?_
  refine xs_ln S w 0 (by first | rfl | omega) (by omega) dX0_begin_13 (fun H locs w => ?_)
  exact xretv () S hr hlk w trivial dX0_begin_14
theorem nj_next {P U c0 k : Nat} {a b : Int} (h : ∀ i : Nat, c0 ≤ i → i < k → ¬ cand P U a b i) (hk : ¬ cand P U a b k) : ∀ i : Nat, c0 ≤ i → i < k + 1 → ¬ cand P U a b i := fun i hi hik => by
  rcases Nat.lt_or_ge i k with q | q
  · exact h i hi q
  · have ek : i = k := by omega
    subst ek
    exact hk
set_option maxHeartbeats 4000000 in
/-- nextJob(c0, U, a, b) -/
theorem mX_nextJob (l : Launch) (P : Nat) (rel len tl lf tr dn ln : Nat → Int) (kn ll : Int) (bo : Nat → Int) (hP : P < 64) (c0 U : Nat) (hc0 : c0 ≤ 6) (hU : U < 64) (a b : Int) (ha : -1 ≤ a ∧ a ≤ 5) (hb : -1 ≤ b ∧ b ≤ 5) : CXi l yX0_nextJob cX0_nextJob 7 (some .int) 1 21 [.int (iI (c0 : Int)), .int (iI (U : Int)), .int (iI a), .int (iI b)] (P, rel, len, tl, lf, tr, dn, ln, kn, ll, bo) (fun z _ => njIs P U a b c0 z) (fun (_ : Unit) => (P, rel, len, tl, lf, tr, dn, ln, kn, ll, bo)) := by
  refine CXi.of (by decide) rfl (fun _ => Nat.le_of_ble_eq_true rfl) ?_
  intro p e s m below meth c D h g A S hr hlk w ls hl
  have hl : lv_has ls 7 [(0, .ref (h 0)), (1, .int (iI (c0 : Int))), (2, .int (iI (U : Int))), (3, .int (iI a)), (4, .int (iI b))] := hl
  have w : xA D h g A s s.heap P rel len tl lf tr dn ln kn ll bo s.heap [] := w
  refine lv_iload_n S.1 S.2.1 dX0_nextJob_0 rfl (lv_at hl 1 rfl) ?_
  refine lv_istore (lv' := [(5, .int (iI (c0 : Int))), (0, .ref (h 0)), (1, .int (iI (c0 : Int))), (2, .int (iI (U : Int))), (3, .int (iI a)), (4, .int (iI b))]) S.1 S.2.1 dX0_nextJob_1 hl (by decide) rfl (fun ls hl => ?_)
  refine W_loop (fun n H locs ls => ∃ (k : Nat), n = 6 - k ∧ c0 ≤ k ∧ k ≤ 6 ∧ (∀ i : Nat, c0 ≤ i → i < k → ¬ cand P U a b i) ∧ xA D h g A s s.heap P rel len tl lf tr dn ln kn ll bo H locs ∧ lv_has ls 7 [(0, .ref (h 0)), (1, .int (iI (c0 : Int))), (2, .int (iI (U : Int))), (3, .int (iI a)), (4, .int (iI b)), (5, .int (iI (k : Int)))]) 3 ?_ (6 - c0) _ _ _ ⟨c0, rfl, Nat.le_refl _, by omega, fun i hi hik => absurd hi (by omega), w, lv_sub hl [1, 2, 3, 4, 5, 0] rfl⟩
  intro n H locs ls hI ih
  obtain ⟨k, hn, hck, hk6, hall, w, hl⟩ := hI
  refine lv_iload S.1 S.2.1 dX0_nextJob_3 (lv_at hl 5 rfl) ?_
  refine zi_bipush S dX0_nextJob_5 (by decide) ?_
  refine zi_icmp_ge (tgt := 68) S dX0_nextJob_7 (by decide) (by omega) (by omega) (fun c55 => ?_) (fun c55 => ?_)
  · refine zi_iconst S dX0_nextJob_68 ?_
    exact xreti () S hr rfl hlk w (Or.inl ⟨rfl, fun i hi hc => hall i (by omega) (by omega)⟩) dX0_nextJob_69
  · refine lv_iload_n S.1 S.2.1 dX0_nextJob_10 rfl (lv_at hl 3 rfl) ?_
    refine zi_if_lt (tgt := 33) S dX0_nextJob_11 (by decide) (by omega) (fun c56 => ?_) (fun c56 => ?_)
    · refine zi_iconst S dX0_nextJob_33 ?_
      refine lv_istore (lv' := [(6, .int (iI 0)), (0, .ref (h 0)), (1, .int (iI (c0 : Int))), (2, .int (iI (U : Int))), (3, .int (iI a)), (4, .int (iI b)), (5, .int (iI (k : Int)))]) S.1 S.2.1 dX0_nextJob_34 hl (by decide) rfl (fun ls hl => ?_)
      refine lv_aload_n S.1 S.2.1 dX0_nextJob_36 rfl (lv_at hl 1 rfl) ?_
      refine lv_iload S.1 S.2.1 dX0_nextJob_37 (lv_at hl 6 rfl) ?_
      refine xcalli [] S w fX_has (mX_has l P rel len tl lf tr dn ln kn ll bo hP (k : Int) (by omega)) rfl ⟨Nat.le_of_ble_eq_true rfl, Nat.le_of_ble_eq_true rfl⟩ hl.1 (Nat.le_of_ble_eq_true rfl) rfl ⟨Nat.zero_le _, Nat.zero_le _⟩ dX0_nextJob_39 (fun z u H locs hp w => ?_)
      have w : xA D h g A s s.heap P rel len tl lf tr dn ln kn ll bo H locs := w
      rcases hp with ⟨rfl, k0, hk0, hk06, hkP⟩ | ⟨rfl, hno⟩
      · obtain rfl : k = k0 := by omega
        refine zi_if_eq (tgt := 62) S dX0_nextJob_42 (by decide) (by omega) (fun c57 => absurd c57 (by omega)) (fun c57 => ?_)
        refine lv_iload_n S.1 S.2.1 dX0_nextJob_45 rfl (lv_at hl 3 rfl) ?_
        refine lv_iload S.1 S.2.1 dX0_nextJob_46 (lv_at hl 6 rfl) ?_
        refine zi_bit S U k (by first | rfl | omega) (by first | rfl | omega) (by omega) (by omega) dX0_nextJob_48 dX0_nextJob_49 dX0_nextJob_50 ?_
        have hbz := bz_r U k
        refine zi_if_ne (tgt := 62) S dX0_nextJob_51 (by decide) (by omega) (fun c58 => ?_) (fun c58 => ?_)
        · have c58 : (U).testBit k = true := bz_n0 c58
          refine lv_iinc (v := iI ((k + 1 : Nat) : Int)) (lv' := [(5, .int (iI ((k + 1 : Nat) : Int))), (6, .int (iI 0)), (0, .ref (h 0)), (1, .int (iI (c0 : Int))), (2, .int (iI (U : Int))), (3, .int (iI a)), (4, .int (iI b))]) S.1 S.2.1 dX0_nextJob_62 hl (k := 6) rfl ((iI_add _ _).trans (congrArg iI (by omega))) (by decide) rfl (fun ls hl => ?_)
          refine lv_goto (tgt := 3) S.1 S.2.1 dX0_nextJob_65 (by decide) ?_
          have hnc : ¬ cand P U a b k := fun q => by rw [q.2.1] at c58; cases c58
          exact ih _ _ _ _ (by omega) ⟨k + 1, rfl, by omega, by omega, nj_next hall hnc, w, lv_sub hl [2, 3, 4, 5, 6, 0] rfl⟩
        · have c58 : (U).testBit k = false := bz_0.mp c58
          refine lv_iload S.1 S.2.1 dX0_nextJob_54 (lv_at hl 0 rfl) ?_
          refine zi_if_ne (tgt := 62) S dX0_nextJob_56 (by decide) (by omega) (fun c59 => absurd c59 (by omega)) (fun c59 => ?_)
          refine lv_iload S.1 S.2.1 dX0_nextJob_59 (lv_at hl 6 rfl) ?_
          exact xreti () S hr rfl hlk w (Or.inr ⟨k, rfl, by omega, by omega, ⟨hkP, c58, (fun q => by omega)⟩, fun i hi hik => hall i (by omega) hik⟩) dX0_nextJob_61
      · skip
        refine zi_if_eq (tgt := 62) S dX0_nextJob_42 (by decide) (by omega) (fun c60 => ?_) (fun c60 => absurd c60 (by omega))
        refine lv_iinc (v := iI ((k + 1 : Nat) : Int)) (lv' := [(5, .int (iI ((k + 1 : Nat) : Int))), (6, .int (iI 0)), (0, .ref (h 0)), (1, .int (iI (c0 : Int))), (2, .int (iI (U : Int))), (3, .int (iI a)), (4, .int (iI b))]) S.1 S.2.1 dX0_nextJob_62 hl (k := 6) rfl ((iI_add _ _).trans (congrArg iI (by omega))) (by decide) rfl (fun ls hl => ?_)
        refine lv_goto (tgt := 3) S.1 S.2.1 dX0_nextJob_65 (by decide) ?_
        have hnc : ¬ cand P U a b k := fun q => by have := hno k rfl (by omega); rw [q.1] at this; cases this
        exact ih _ _ _ _ (by omega) ⟨k + 1, rfl, by omega, by omega, nj_next hall hnc, w, lv_sub hl [2, 3, 4, 5, 6, 0] rfl⟩
    · refine lv_iload S.1 S.2.1 dX0_nextJob_14 (lv_at hl 5 rfl) ?_
      refine lv_iload S.1 S.2.1 dX0_nextJob_16 (lv_at hl 4 rfl) ?_
      refine zi_icmp_ne (tgt := 33) S dX0_nextJob_18 (by decide) (by omega) (by omega) (fun c61 => ?_) (fun c61 => ?_)
      · refine zi_iconst S dX0_nextJob_33 ?_
        refine lv_istore (lv' := [(6, .int (iI 0)), (0, .ref (h 0)), (1, .int (iI (c0 : Int))), (2, .int (iI (U : Int))), (3, .int (iI a)), (4, .int (iI b)), (5, .int (iI (k : Int)))]) S.1 S.2.1 dX0_nextJob_34 hl (by decide) rfl (fun ls hl => ?_)
        refine lv_aload_n S.1 S.2.1 dX0_nextJob_36 rfl (lv_at hl 1 rfl) ?_
        refine lv_iload S.1 S.2.1 dX0_nextJob_37 (lv_at hl 6 rfl) ?_
        refine xcalli [] S w fX_has (mX_has l P rel len tl lf tr dn ln kn ll bo hP (k : Int) (by omega)) rfl ⟨Nat.le_of_ble_eq_true rfl, Nat.le_of_ble_eq_true rfl⟩ hl.1 (Nat.le_of_ble_eq_true rfl) rfl ⟨Nat.zero_le _, Nat.zero_le _⟩ dX0_nextJob_39 (fun z u H locs hp w => ?_)
        have w : xA D h g A s s.heap P rel len tl lf tr dn ln kn ll bo H locs := w
        rcases hp with ⟨rfl, k0, hk0, hk06, hkP⟩ | ⟨rfl, hno⟩
        · obtain rfl : k = k0 := by omega
          refine zi_if_eq (tgt := 62) S dX0_nextJob_42 (by decide) (by omega) (fun c62 => absurd c62 (by omega)) (fun c62 => ?_)
          refine lv_iload_n S.1 S.2.1 dX0_nextJob_45 rfl (lv_at hl 3 rfl) ?_
          refine lv_iload S.1 S.2.1 dX0_nextJob_46 (lv_at hl 6 rfl) ?_
          refine zi_bit S U k (by first | rfl | omega) (by first | rfl | omega) (by omega) (by omega) dX0_nextJob_48 dX0_nextJob_49 dX0_nextJob_50 ?_
          have hbz := bz_r U k
          refine zi_if_ne (tgt := 62) S dX0_nextJob_51 (by decide) (by omega) (fun c63 => ?_) (fun c63 => ?_)
          · have c63 : (U).testBit k = true := bz_n0 c63
            refine lv_iinc (v := iI ((k + 1 : Nat) : Int)) (lv' := [(5, .int (iI ((k + 1 : Nat) : Int))), (6, .int (iI 0)), (0, .ref (h 0)), (1, .int (iI (c0 : Int))), (2, .int (iI (U : Int))), (3, .int (iI a)), (4, .int (iI b))]) S.1 S.2.1 dX0_nextJob_62 hl (k := 6) rfl ((iI_add _ _).trans (congrArg iI (by omega))) (by decide) rfl (fun ls hl => ?_)
            refine lv_goto (tgt := 3) S.1 S.2.1 dX0_nextJob_65 (by decide) ?_
            have hnc : ¬ cand P U a b k := fun q => by rw [q.2.1] at c63; cases c63
            exact ih _ _ _ _ (by omega) ⟨k + 1, rfl, by omega, by omega, nj_next hall hnc, w, lv_sub hl [2, 3, 4, 5, 6, 0] rfl⟩
          · have c63 : (U).testBit k = false := bz_0.mp c63
            refine lv_iload S.1 S.2.1 dX0_nextJob_54 (lv_at hl 0 rfl) ?_
            refine zi_if_ne (tgt := 62) S dX0_nextJob_56 (by decide) (by omega) (fun c64 => absurd c64 (by omega)) (fun c64 => ?_)
            refine lv_iload S.1 S.2.1 dX0_nextJob_59 (lv_at hl 6 rfl) ?_
            exact xreti () S hr rfl hlk w (Or.inr ⟨k, rfl, by omega, by omega, ⟨hkP, c63, (fun q => c61 q.2.1)⟩, fun i hi hik => hall i (by omega) hik⟩) dX0_nextJob_61
        · skip
          refine zi_if_eq (tgt := 62) S dX0_nextJob_42 (by decide) (by omega) (fun c65 => ?_) (fun c65 => absurd c65 (by omega))
          refine lv_iinc (v := iI ((k + 1 : Nat) : Int)) (lv' := [(5, .int (iI ((k + 1 : Nat) : Int))), (6, .int (iI 0)), (0, .ref (h 0)), (1, .int (iI (c0 : Int))), (2, .int (iI (U : Int))), (3, .int (iI a)), (4, .int (iI b))]) S.1 S.2.1 dX0_nextJob_62 hl (k := 6) rfl ((iI_add _ _).trans (congrArg iI (by omega))) (by decide) rfl (fun ls hl => ?_)
          refine lv_goto (tgt := 3) S.1 S.2.1 dX0_nextJob_65 (by decide) ?_
          have hnc : ¬ cand P U a b k := fun q => by have := hno k rfl (by omega); rw [q.1] at this; cases this
          exact ih _ _ _ _ (by omega) ⟨k + 1, rfl, by omega, by omega, nj_next hall hnc, w, lv_sub hl [2, 3, 4, 5, 6, 0] rfl⟩
      · obtain ⟨a1, rfl⟩ : ∃ a1 : Nat, a = (a1 : Int) := ⟨a.toNat, by omega⟩
        refine lv_iload_n S.1 S.2.1 dX0_nextJob_21 rfl (lv_at hl 2 rfl) ?_
        refine lv_iload_n S.1 S.2.1 dX0_nextJob_22 rfl (lv_at hl 3 rfl) ?_
        refine zi_bit S U a1 (by first | rfl | omega) (by first | rfl | omega) (by omega) (by omega) dX0_nextJob_23 dX0_nextJob_24 dX0_nextJob_25 ?_
        have hbz := bz_r U a1
        refine zi_if_ne (tgt := 33) S dX0_nextJob_26 (by decide) (by omega) (fun c66 => ?_) (fun c66 => ?_)
        · have c66 : (U).testBit a1 = true := bz_n0 c66
          refine zi_iconst S dX0_nextJob_33 ?_
          refine lv_istore (lv' := [(6, .int (iI 0)), (0, .ref (h 0)), (1, .int (iI (c0 : Int))), (2, .int (iI (U : Int))), (3, .int (iI (a1 : Int))), (4, .int (iI b)), (5, .int (iI (k : Int)))]) S.1 S.2.1 dX0_nextJob_34 hl (by decide) rfl (fun ls hl => ?_)
          refine lv_aload_n S.1 S.2.1 dX0_nextJob_36 rfl (lv_at hl 1 rfl) ?_
          refine lv_iload S.1 S.2.1 dX0_nextJob_37 (lv_at hl 6 rfl) ?_
          refine xcalli [] S w fX_has (mX_has l P rel len tl lf tr dn ln kn ll bo hP (k : Int) (by omega)) rfl ⟨Nat.le_of_ble_eq_true rfl, Nat.le_of_ble_eq_true rfl⟩ hl.1 (Nat.le_of_ble_eq_true rfl) rfl ⟨Nat.zero_le _, Nat.zero_le _⟩ dX0_nextJob_39 (fun z u H locs hp w => ?_)
          have w : xA D h g A s s.heap P rel len tl lf tr dn ln kn ll bo H locs := w
          rcases hp with ⟨rfl, k0, hk0, hk06, hkP⟩ | ⟨rfl, hno⟩
          · obtain rfl : k = k0 := by omega
            refine zi_if_eq (tgt := 62) S dX0_nextJob_42 (by decide) (by omega) (fun c67 => absurd c67 (by omega)) (fun c67 => ?_)
            refine lv_iload_n S.1 S.2.1 dX0_nextJob_45 rfl (lv_at hl 3 rfl) ?_
            refine lv_iload S.1 S.2.1 dX0_nextJob_46 (lv_at hl 6 rfl) ?_
            refine zi_bit S U k (by first | rfl | omega) (by first | rfl | omega) (by omega) (by omega) dX0_nextJob_48 dX0_nextJob_49 dX0_nextJob_50 ?_
            have hbz := bz_r U k
            refine zi_if_ne (tgt := 62) S dX0_nextJob_51 (by decide) (by omega) (fun c68 => ?_) (fun c68 => ?_)
            · have c68 : (U).testBit k = true := bz_n0 c68
              refine lv_iinc (v := iI ((k + 1 : Nat) : Int)) (lv' := [(5, .int (iI ((k + 1 : Nat) : Int))), (6, .int (iI 0)), (0, .ref (h 0)), (1, .int (iI (c0 : Int))), (2, .int (iI (U : Int))), (3, .int (iI (a1 : Int))), (4, .int (iI b))]) S.1 S.2.1 dX0_nextJob_62 hl (k := 6) rfl ((iI_add _ _).trans (congrArg iI (by omega))) (by decide) rfl (fun ls hl => ?_)
              refine lv_goto (tgt := 3) S.1 S.2.1 dX0_nextJob_65 (by decide) ?_
              have hnc : ¬ cand P U (a1 : Int) b k := fun q => by rw [q.2.1] at c68; cases c68
              exact ih _ _ _ _ (by omega) ⟨k + 1, rfl, by omega, by omega, nj_next hall hnc, w, lv_sub hl [2, 3, 4, 5, 6, 0] rfl⟩
            · have c68 : (U).testBit k = false := bz_0.mp c68
              refine lv_iload S.1 S.2.1 dX0_nextJob_54 (lv_at hl 0 rfl) ?_
              refine zi_if_ne (tgt := 62) S dX0_nextJob_56 (by decide) (by omega) (fun c69 => absurd c69 (by omega)) (fun c69 => ?_)
              refine lv_iload S.1 S.2.1 dX0_nextJob_59 (lv_at hl 6 rfl) ?_
              exact xreti () S hr rfl hlk w (Or.inr ⟨k, rfl, by omega, by omega, ⟨hkP, c68, (fun q => by have q2 := q.2.2; rw [Int.toNat_natCast, c66] at q2; cases q2)⟩, fun i hi hik => hall i (by omega) hik⟩) dX0_nextJob_61
          · skip
            refine zi_if_eq (tgt := 62) S dX0_nextJob_42 (by decide) (by omega) (fun c70 => ?_) (fun c70 => absurd c70 (by omega))
            refine lv_iinc (v := iI ((k + 1 : Nat) : Int)) (lv' := [(5, .int (iI ((k + 1 : Nat) : Int))), (6, .int (iI 0)), (0, .ref (h 0)), (1, .int (iI (c0 : Int))), (2, .int (iI (U : Int))), (3, .int (iI (a1 : Int))), (4, .int (iI b))]) S.1 S.2.1 dX0_nextJob_62 hl (k := 6) rfl ((iI_add _ _).trans (congrArg iI (by omega))) (by decide) rfl (fun ls hl => ?_)
            refine lv_goto (tgt := 3) S.1 S.2.1 dX0_nextJob_65 (by decide) ?_
            have hnc : ¬ cand P U (a1 : Int) b k := fun q => by have := hno k rfl (by omega); rw [q.1] at this; cases this
            exact ih _ _ _ _ (by omega) ⟨k + 1, rfl, by omega, by omega, nj_next hall hnc, w, lv_sub hl [2, 3, 4, 5, 6, 0] rfl⟩
        · have c66 : (U).testBit a1 = false := bz_0.mp c66
          refine zi_iconst S dX0_nextJob_29 ?_
          refine lv_goto (tgt := 34) S.1 S.2.1 dX0_nextJob_30 (by decide) ?_
          refine lv_istore (lv' := [(6, .int (iI 1)), (0, .ref (h 0)), (1, .int (iI (c0 : Int))), (2, .int (iI (U : Int))), (3, .int (iI (a1 : Int))), (4, .int (iI b)), (5, .int (iI (k : Int)))]) S.1 S.2.1 dX0_nextJob_34 hl (by decide) rfl (fun ls hl => ?_)
          refine lv_aload_n S.1 S.2.1 dX0_nextJob_36 rfl (lv_at hl 1 rfl) ?_
          refine lv_iload S.1 S.2.1 dX0_nextJob_37 (lv_at hl 6 rfl) ?_
          refine xcalli [] S w fX_has (mX_has l P rel len tl lf tr dn ln kn ll bo hP (k : Int) (by omega)) rfl ⟨Nat.le_of_ble_eq_true rfl, Nat.le_of_ble_eq_true rfl⟩ hl.1 (Nat.le_of_ble_eq_true rfl) rfl ⟨Nat.zero_le _, Nat.zero_le _⟩ dX0_nextJob_39 (fun z u H locs hp w => ?_)
          have w : xA D h g A s s.heap P rel len tl lf tr dn ln kn ll bo H locs := w
          rcases hp with ⟨rfl, k0, hk0, hk06, hkP⟩ | ⟨rfl, hno⟩
          · obtain rfl : k = k0 := by omega
            refine zi_if_eq (tgt := 62) S dX0_nextJob_42 (by decide) (by omega) (fun c71 => absurd c71 (by omega)) (fun c71 => ?_)
            refine lv_iload_n S.1 S.2.1 dX0_nextJob_45 rfl (lv_at hl 3 rfl) ?_
            refine lv_iload S.1 S.2.1 dX0_nextJob_46 (lv_at hl 6 rfl) ?_
            refine zi_bit S U k (by first | rfl | omega) (by first | rfl | omega) (by omega) (by omega) dX0_nextJob_48 dX0_nextJob_49 dX0_nextJob_50 ?_
            have hbz := bz_r U k
            refine zi_if_ne (tgt := 62) S dX0_nextJob_51 (by decide) (by omega) (fun c72 => ?_) (fun c72 => ?_)
            · have c72 : (U).testBit k = true := bz_n0 c72
              refine lv_iinc (v := iI ((k + 1 : Nat) : Int)) (lv' := [(5, .int (iI ((k + 1 : Nat) : Int))), (6, .int (iI 1)), (0, .ref (h 0)), (1, .int (iI (c0 : Int))), (2, .int (iI (U : Int))), (3, .int (iI (a1 : Int))), (4, .int (iI b))]) S.1 S.2.1 dX0_nextJob_62 hl (k := 6) rfl ((iI_add _ _).trans (congrArg iI (by omega))) (by decide) rfl (fun ls hl => ?_)
              refine lv_goto (tgt := 3) S.1 S.2.1 dX0_nextJob_65 (by decide) ?_
              have hnc : ¬ cand P U (a1 : Int) b k := fun q => by rw [q.2.1] at c72; cases c72
              exact ih _ _ _ _ (by omega) ⟨k + 1, rfl, by omega, by omega, nj_next hall hnc, w, lv_sub hl [2, 3, 4, 5, 6, 0] rfl⟩
            · have c72 : (U).testBit k = false := bz_0.mp c72
              refine lv_iload S.1 S.2.1 dX0_nextJob_54 (lv_at hl 0 rfl) ?_
              refine zi_if_ne (tgt := 62) S dX0_nextJob_56 (by decide) (by omega) (fun c73 => ?_) (fun c73 => absurd c73 (by omega))
              refine lv_iinc (v := iI ((k + 1 : Nat) : Int)) (lv' := [(5, .int (iI ((k + 1 : Nat) : Int))), (6, .int (iI 1)), (0, .ref (h 0)), (1, .int (iI (c0 : Int))), (2, .int (iI (U : Int))), (3, .int (iI (a1 : Int))), (4, .int (iI b))]) S.1 S.2.1 dX0_nextJob_62 hl (k := 6) rfl ((iI_add _ _).trans (congrArg iI (by omega))) (by decide) rfl (fun ls hl => ?_)
              refine lv_goto (tgt := 3) S.1 S.2.1 dX0_nextJob_65 (by decide) ?_
              have hnc : ¬ cand P U (a1 : Int) b k := fun q => q.2.2 ⟨by omega, by omega, by rw [Int.toNat_natCast]; exact c66⟩
              exact ih _ _ _ _ (by omega) ⟨k + 1, rfl, by omega, by omega, nj_next hall hnc, w, lv_sub hl [2, 3, 4, 5, 6, 0] rfl⟩
          · skip
            refine zi_if_eq (tgt := 62) S dX0_nextJob_42 (by decide) (by omega) (fun c74 => ?_) (fun c74 => absurd c74 (by omega))
            refine lv_iinc (v := iI ((k + 1 : Nat) : Int)) (lv' := [(5, .int (iI ((k + 1 : Nat) : Int))), (6, .int (iI 1)), (0, .ref (h 0)), (1, .int (iI (c0 : Int))), (2, .int (iI (U : Int))), (3, .int (iI (a1 : Int))), (4, .int (iI b))]) S.1 S.2.1 dX0_nextJob_62 hl (k := 6) rfl ((iI_add _ _).trans (congrArg iI (by omega))) (by decide) rfl (fun ls hl => ?_)
            refine lv_goto (tgt := 3) S.1 S.2.1 dX0_nextJob_65 (by decide) ?_
            have hnc : ¬ cand P U (a1 : Int) b k := fun q => by have := hno k rfl (by omega); rw [q.1] at this; cases this
            exact ih _ _ _ _ (by omega) ⟨k + 1, rfl, by omega, by omega, nj_next hall hnc, w, lv_sub hl [2, 3, 4, 5, 6, 0] rfl⟩
end
section
/-! HeadTail: the search -/
set_option maxRecDepth 100000
set_option maxHeartbeats 4000000 in
/-- search(fx, a, b) -/
theorem mX_search (l : Launch) (P : Nat) (rel len tl lf tr dn ln : Nat → Int) (kn ll : Int) (bo : Nat → Int) (hP : P < 64) (hd : dOK rel len tl) (hlen1 : ∀ j, j < 6 → P.testBit j = true → 1 ≤ len j) (fx : Nat) (a b : Int) (ha : -1 ≤ a ∧ a ≤ 5) (hb : -1 ≤ b ∧ b ≤ 5) (htr : ∀ k, k < fx → 0 ≤ tr k ∧ tr k ≤ 5) (hUP : ∀ i, (um tr fx).testBit i = true → P.testBit i = true) (hall : fx + cnt (sd P (um tr fx)) = cnt P) (hdn : 0 ≤ dn fx ∧ dn fx ≤ 212 * fx) (hln : 0 ≤ ln fx ∧ ln fx ≤ 212 * fx + 200) : CXi l yX0_search cX0_search 12 (some .int) 3 75 [.int (iI (fx : Int)), .int (iI a), .int (iI b)] (P, rel, len, tl, lf, tr, dn, ln, kn, ll, bo) (fun z (u : (Nat → Int) × (Nat → Int) × (Nat → Int) × (Nat → Int)) => wMin rel len tl a b (sd P (um tr fx)) (um tr fx) (dn fx) (ln fx) z ∧ (0 ≤ z ∧ z ≤ 100000) ∧ (∀ k, k < fx → u.2.1 k = tr k) ∧ ∀ k, k ≤ fx → u.2.2.1 k = dn k ∧ u.2.2.2 k = ln k) (fun u => (P, rel, len, tl, u.1, u.2.1, u.2.2.1, u.2.2.2, kn, ll, bo)) := by
  refine CXi.of (by decide) rfl (fun _ => Nat.le_of_ble_eq_true rfl) ?_
  intro p e s m below meth c D h g A S hr hlk w ls hl
  have hl : lv_has ls 12 [(0, .ref (h 0)), (1, .int (iI (fx : Int))), (2, .int (iI a)), (3, .int (iI b))] := hl
  have w : xA D h g A s s.heap P rel len tl lf tr dn ln kn ll bo s.heap [] := w
  have hc6 := cnt_le P
  refine lv_aload_n S.1 S.2.1 dX0_search_0 rfl (lv_at hl 0 rfl) ?_
  refine xcalli [] S w fX_count (mX_count l P rel len tl lf tr dn ln kn ll bo hP) rfl ⟨Nat.le_of_ble_eq_true rfl, Nat.le_of_ble_eq_true rfl⟩ hl.1 (Nat.le_of_ble_eq_true rfl) rfl ⟨Nat.zero_le _, Nat.zero_le _⟩ dX0_search_1 (fun z u H locs hp w => ?_)
  subst hp
  have w : xA D h g A s s.heap P rel len tl lf tr dn ln kn ll bo H locs := w
  refine lv_istore (lv' := [(4, .int (iI (cnt P : Int))), (0, .ref (h 0)), (1, .int (iI (fx : Int))), (2, .int (iI a)), (3, .int (iI b))]) S.1 S.2.1 dX0_search_4 hl (by decide) rfl (fun ls hl => ?_)
  refine zi_iconst S dX0_search_6 ?_
  refine lv_istore (lv' := [(5, .int (iI 0)), (4, .int (iI (cnt P : Int))), (0, .ref (h 0)), (1, .int (iI (fx : Int))), (2, .int (iI a)), (3, .int (iI b))]) S.1 S.2.1 dX0_search_7 hl (by decide) rfl (fun ls hl => ?_)
  refine zi_iconst S dX0_search_9 ?_
  refine lv_istore (lv' := [(6, .int (iI 0)), (5, .int (iI 0)), (4, .int (iI (cnt P : Int))), (0, .ref (h 0)), (1, .int (iI (fx : Int))), (2, .int (iI a)), (3, .int (iI b))]) S.1 S.2.1 dX0_search_10 hl (by decide) rfl (fun ls hl => ?_)
  refine W_loop (fun n H locs ls => ∃ (k : Nat), n = fx - k ∧ k ≤ fx ∧ xA D h g A s s.heap P rel len tl lf tr dn ln kn ll bo H locs ∧ lv_has ls 12 [(0, .ref (h 0)), (1, .int (iI (fx : Int))), (2, .int (iI a)), (3, .int (iI b)), (4, .int (iI (cnt P : Int))), (5, .int (iI (um tr k : Int))), (6, .int (iI (k : Int)))]) 12 ?_ fx _ _ _ ⟨0, rfl, by omega, w, lv_sub hl [3, 4, 5, 6, 2, 1, 0] rfl⟩
  intro n H locs ls hI ih
  obtain ⟨k, hn, hk6, w, hl⟩ := hI
  refine lv_iload S.1 S.2.1 dX0_search_12 (lv_at hl 6 rfl) ?_
  refine lv_iload_n S.1 S.2.1 dX0_search_14 rfl (lv_at hl 1 rfl) ?_
  refine zi_icmp_ge (tgt := 38) S dX0_search_15 (by decide) (by omega) (by omega) (fun c28 => ?_) (fun c28 => ?_)
  · obtain ⟨rfl⟩ : fx = k := by omega
    clear ih
    refine lv_iload_n S.1 S.2.1 dX0_search_38 rfl (lv_at hl 1 rfl) ?_
    refine lv_iload S.1 S.2.1 dX0_search_39 (lv_at hl 4 rfl) ?_
    refine zi_icmp_ne (tgt := 53) S dX0_search_41 (by decide) (by omega) (by omega) (fun c29 => ?_) (fun c29 => ?_)
    · refine zi_ldc (v := 100000) S q124 dX0_search_53 ?_
      refine lv_istore (lv' := [(6, .int (iI 100000)), (0, .ref (h 0)), (1, .int (iI (fx : Int))), (2, .int (iI a)), (3, .int (iI b)), (4, .int (iI (cnt P : Int))), (5, .int (iI (um tr fx : Int)))]) S.1 S.2.1 dX0_search_55 hl (by decide) rfl (fun ls hl => ?_)
      refine lv_iload_n S.1 S.2.1 dX0_search_57 rfl (lv_at hl 2 rfl) ?_
      refine lv_istore (lv' := [(7, .int (iI (fx : Int))), (6, .int (iI 100000)), (0, .ref (h 0)), (1, .int (iI (fx : Int))), (2, .int (iI a)), (3, .int (iI b)), (4, .int (iI (cnt P : Int))), (5, .int (iI (um tr fx : Int)))]) S.1 S.2.1 dX0_search_58 hl (by decide) rfl (fun ls hl => ?_)
      refine lv_aload_n S.1 S.2.1 dX0_search_60 rfl (lv_at hl 2 rfl) ?_
      refine xg_tr S w dX0_search_61 ?_
      refine lv_iload S.1 S.2.1 dX0_search_64 (lv_at hl 0 rfl) ?_
      refine zi_iconst S dX0_search_66 ?_
      refine xs_tr S w fx (by first | rfl | omega) (by omega) (by omega) dX0_search_67 (fun H locs w => ?_)
      refine zi_iconst S dX0_search_68 ?_
      refine lv_istore (lv' := [(8, .int (iI 0)), (7, .int (iI (fx : Int))), (6, .int (iI 100000)), (0, .ref (h 0)), (1, .int (iI (fx : Int))), (2, .int (iI a)), (3, .int (iI b)), (4, .int (iI (cnt P : Int))), (5, .int (iI (um tr fx : Int)))]) S.1 S.2.1 dX0_search_69 hl (by decide) rfl (fun ls hl => ?_)
      have hwp0 := s_top hd hP a b fx htr hUP hall (by omega) hdn hln
      refine W_loop (fun n H locs ls => ∃ (nf rd : Nat) (lv : Int) (U : Nat) (bs : Int) (lfx trx dnx lnx : Nat → Int), n = nf ∧ rd + nf = 4096 ∧ sWp rel len tl P a b fx (fun bs tr2 dn2 ln2 => wMin rel len tl a b (sd P (um tr fx)) (um tr fx) (dn fx) (ln fx) bs ∧ (0 ≤ bs ∧ bs ≤ 100000) ∧ (∀ k, k < fx → tr2 k = tr k) ∧ ∀ k, k ≤ fx → dn2 k = dn k ∧ ln2 k = ln k) nf lv U bs trx dnx lnx ∧ (-1 ≤ lv ∧ lv ≤ 6) ∧ (0 ≤ bs ∧ bs ≤ 100000) ∧ xA D h g A s s.heap P rel len tl lfx trx dnx lnx kn ll bo H locs ∧ lv_has ls 12 [(0, .ref (h 0)), (1, .int (iI (fx : Int))), (2, .int (iI a)), (3, .int (iI b)), (4, .int (iI (cnt P : Int))), (5, .int (iI (U : Int))), (6, .int (iI bs)), (7, .int (iI lv)), (8, .int (iI (rd : Int)))]) 71 ?_ 4096 _ _ _ ⟨4096, 0, fx, um tr fx, 100000, lf, updZ tr fx (-1), dn, ln, rfl, rfl, hwp0, by omega, by omega, w, lv_sub hl [3, 4, 5, 6, 7, 8, 2, 1, 0] rfl⟩
      intro n H locs ls hI ih
      obtain ⟨nf, rd, lv, U, bs, lfx, trx, dnx, lnx, hn, hrd, hwp, hlv, hbs0, w, hl⟩ := hI
      refine lv_iload S.1 S.2.1 dX0_search_71 (lv_at hl 8 rfl) ?_
      refine zi_sipush S dX0_search_73 (by decide) ?_
      refine zi_icmp_ge (tgt := 233) S dX0_search_76 (by decide) (by omega) (by omega) (fun c30 => ?_) (fun c30 => ?_)
      · obtain rfl : nf = 0 := by omega
        have hpost := hwp.2
        refine lv_iload S.1 S.2.1 dX0_search_233 (lv_at hl 6 rfl) ?_
        exact xreti (lfx, trx, dnx, lnx) S hr rfl hlk w hpost dX0_search_235
      · obtain ⟨nf, rfl⟩ : ∃ nf2, nf = nf2 + 1 := ⟨nf - 1, by omega⟩
        refine lv_iload S.1 S.2.1 dX0_search_79 (lv_at hl 7 rfl) ?_
        refine lv_iload_n S.1 S.2.1 dX0_search_81 rfl (lv_at hl 1 rfl) ?_
        refine zi_icmp_lt (tgt := 233) S dX0_search_82 (by decide) (by omega) (by omega) (fun c31 => ?_) (fun c31 => ?_)
        · have hpost := sWp_exit hwp (by omega)
          refine lv_iload S.1 S.2.1 dX0_search_233 (lv_at hl 6 rfl) ?_
          exact xreti (lfx, trx, dnx, lnx) S hr rfl hlk w hpost dX0_search_235
        · refine lv_iload_n S.1 S.2.1 dX0_search_85 rfl (lv_at hl 1 rfl) ?_
          refine lv_iload S.1 S.2.1 dX0_search_86 (lv_at hl 4 rfl) ?_
          refine zi_icmp_ge (tgt := 233) S dX0_search_88 (by decide) (by omega) (by omega) (fun c32 => absurd c32 (by omega)) (fun c32 => ?_)
          obtain ⟨d, hlvd, hfd, hd5, hU, htd, hdnd, hlnd, hbs, hpr, hleave, hchild⟩ := sWp_go hwp (by omega)
          subst hlvd
          refine lv_aload_n S.1 S.2.1 dX0_search_91 rfl (lv_at hl 0 rfl) ?_
          refine lv_aload_n S.1 S.2.1 dX0_search_92 rfl (lv_at hl 0 rfl) ?_
          refine xg_tr S w dX0_search_93 ?_
          refine lv_iload S.1 S.2.1 dX0_search_96 (lv_at hl 7 rfl) ?_
          refine xl_tr S w d (by first | rfl | omega) (by omega) dX0_search_98 ?_
          refine zi_iconst S dX0_search_99 ?_
          refine zi_iadd S dX0_search_100 ?_
          refine W_is ((trx d + 1).toNat : Int) (by omega) ?_
          refine lv_iload S.1 S.2.1 dX0_search_101 (lv_at hl 5 rfl) ?_
          refine lv_iload_n S.1 S.2.1 dX0_search_103 rfl (lv_at hl 2 rfl) ?_
          refine lv_iload_n S.1 S.2.1 dX0_search_104 rfl (lv_at hl 3 rfl) ?_
          refine xcalli [] S w fX_nextJob (mX_nextJob l P rel len tl lfx trx dnx lnx kn ll bo hP (trx d + 1).toNat U (by omega) hU a b ha hb) rfl ⟨Nat.le_of_ble_eq_true rfl, Nat.le_of_ble_eq_true rfl⟩ hl.1 (Nat.le_of_ble_eq_true rfl) rfl ⟨Nat.zero_le _, Nat.zero_le _⟩ dX0_search_105 (fun z u H locs hp w => ?_)
          have w : xA D h g A s s.heap P rel len tl lfx trx dnx lnx kn ll bo H locs := w
          rw [show (((trx d + 1).toNat : Nat) : Int) = trx d + 1 by omega] at hp
          have hzr := nj_rng hp
          obtain ⟨z9, rfl⟩ : ∃ z9, z9 = z := ⟨_, rfl⟩
          refine lv_istore (lv' := [(9, .int (iI z9)), (0, .ref (h 0)), (1, .int (iI (fx : Int))), (2, .int (iI a)), (3, .int (iI b)), (4, .int (iI (cnt P : Int))), (5, .int (iI (U : Int))), (6, .int (iI bs)), (7, .int (iI (d : Int))), (8, .int (iI (rd : Int)))]) S.1 S.2.1 dX0_search_108 hl (by decide) rfl (fun ls hl => ?_)
          refine lv_iload S.1 S.2.1 dX0_search_110 (lv_at hl 0 rfl) ?_
          refine zi_if_ge (tgt := 143) S dX0_search_112 (by decide) (by omega) (fun c33 => ?_) (fun c33 => ?_)
          · obtain ⟨j, hj, hj6⟩ := nj_nat hp (by omega)
            subst hj
            obtain ⟨hjP, hjU, hch⟩ := hchild j hj6 hp
            have hdj := hd j hj6
            have hT1 : 0 ≤ (nx rel len (dnx d) j) ∧ (nx rel len (dnx d) j) ≤ 1600 := by unfold nx; omega
            have hR64 : (sd (sd P U) (2 ^ j)) < 64 := sd_lt _ (sd_lt _ hP)
            refine lv_aload_n S.1 S.2.1 dX0_search_143 rfl (lv_at hl 1 rfl) ?_
            refine lv_iload S.1 S.2.1 dX0_search_144 (lv_at hl 8 rfl) ?_
            refine lv_iload S.1 S.2.1 dX0_search_146 (lv_at hl 0 rfl) ?_
            refine xcallv [] S w fX_place (mX_place l P rel len tl lfx trx dnx lnx kn ll bo hd d j (by omega) hj6 (by omega) (by omega)) rfl ⟨Nat.le_of_ble_eq_true rfl, Nat.le_of_ble_eq_true rfl⟩ hl.1 (Nat.le_of_ble_eq_true rfl) rfl ⟨Nat.zero_le _, Nat.zero_le _⟩ dX0_search_148 (fun u H locs hp w => ?_)
            have w : xA D h g A s s.heap P rel len tl lfx (updZ trx d (j : Int)) (updZ dnx (d + 1) (nx rel len (dnx d) j)) (updZ lnx (d + 1) (max (lnx d) ((nx rel len (dnx d) j) + tl j))) kn ll bo H locs := w
            refine lv_aload_n S.1 S.2.1 dX0_search_151 rfl (lv_at hl 1 rfl) ?_
            refine xg_P S w dX0_search_152 ?_
            refine lv_iload S.1 S.2.1 dX0_search_155 (lv_at hl 6 rfl) ?_
            refine zi_andnot S P U (by first | rfl | omega) (by first | rfl | omega) dX0_search_157 dX0_search_158 dX0_search_159 ?_
            refine zi_iconst S dX0_search_160 ?_
            refine lv_iload S.1 S.2.1 dX0_search_161 (lv_at hl 0 rfl) ?_
            refine zi_shl1 S j (by first | rfl | omega) (by omega) dX0_search_163 ?_
            refine zi_andnot S (sd P U) (2 ^ j) (by first | rfl | omega) (by first | rfl | omega) dX0_search_164 dX0_search_165 dX0_search_166 ?_
            refine lv_istore (lv' := [(10, .int (iI (((sd (sd P U) (2 ^ j)) : Nat) : Int))), (9, .int (iI (j : Int))), (0, .ref (h 0)), (1, .int (iI (fx : Int))), (2, .int (iI a)), (3, .int (iI b)), (4, .int (iI (cnt P : Int))), (5, .int (iI (U : Int))), (6, .int (iI bs)), (7, .int (iI (d : Int))), (8, .int (iI (rd : Int)))]) S.1 S.2.1 dX0_search_167 hl (by decide) rfl (fun ls hl => ?_)
            refine lv_aload_n S.1 S.2.1 dX0_search_169 rfl (lv_at hl 2 rfl) ?_
            refine lv_iload S.1 S.2.1 dX0_search_170 (lv_at hl 9 rfl) ?_
            refine zi_iconst S dX0_search_172 ?_
            refine zi_iadd S dX0_search_173 ?_
            refine W_is ((d + 1 : Nat) : Int) (by omega) ?_
            refine lv_iload S.1 S.2.1 dX0_search_174 (lv_at hl 0 rfl) ?_
            refine xcalli [] S w fX_boundFor (mX_boundFor l P rel len tl lfx (updZ trx d (j : Int)) (updZ dnx (d + 1) (nx rel len (dnx d) j)) (updZ lnx (d + 1) (max (lnx d) ((nx rel len (dnx d) j) + tl j))) kn ll bo hd (d + 1) (sd (sd P U) (2 ^ j)) (by omega) hR64 (fun i hi hb => hlen1 i hi (by rw [sd_bit, sd_bit] at hb; simp only [Bool.and_eq_true] at hb; exact hb.1.1)) (by rw [updZ_s]; omega) (by rw [updZ_s]; omega)) rfl ⟨Nat.le_of_ble_eq_true rfl, Nat.le_of_ble_eq_true rfl⟩ hl.1 (Nat.le_of_ble_eq_true rfl) rfl ⟨Nat.zero_le _, Nat.zero_le _⟩ dX0_search_176 (fun z u H locs hp w => ?_)
            have w : xA D h g A s s.heap P rel len tl u (updZ trx d (j : Int)) (updZ dnx (d + 1) (nx rel len (dnx d) j)) (updZ lnx (d + 1) (max (lnx d) ((nx rel len (dnx d) j) + tl j))) kn ll bo H locs := w
            obtain ⟨z1, hz1, hz1r, rfl⟩ := hp
            rw [updZ_s] at hz1
            rw [updZ_s]
            obtain ⟨hA, hB, hC⟩ := hch z1 hz1
            refine lv_istore (lv' := [(11, .int (iI (max z1 (max (lnx d) ((nx rel len (dnx d) j) + tl j))))), (10, .int (iI (((sd (sd P U) (2 ^ j)) : Nat) : Int))), (9, .int (iI (j : Int))), (0, .ref (h 0)), (1, .int (iI (fx : Int))), (2, .int (iI a)), (3, .int (iI b)), (4, .int (iI (cnt P : Int))), (5, .int (iI (U : Int))), (6, .int (iI bs)), (7, .int (iI (d : Int))), (8, .int (iI (rd : Int)))]) S.1 S.2.1 dX0_search_179 hl (by decide) rfl (fun ls hl => ?_)
            refine lv_iload S.1 S.2.1 dX0_search_181 (lv_at hl 0 rfl) ?_
            refine lv_iload S.1 S.2.1 dX0_search_183 (lv_at hl 9 rfl) ?_
            refine zi_icmp_ge (tgt := 200) S dX0_search_185 (by decide) (by omega) (by omega) (fun c34 => ?_) (fun c34 => ?_)
            · refine lv_iload S.1 S.2.1 dX0_search_200 (lv_at hl 0 rfl) ?_
              refine lv_iload S.1 S.2.1 dX0_search_202 (lv_at hl 9 rfl) ?_
              refine zi_icmp_ge (tgt := 227) S dX0_search_204 (by decide) (by omega) (by omega) (fun c35 => ?_) (fun c35 => absurd c35 (by omega))
              refine lv_iinc (v := iI ((rd + 1 : Nat) : Int)) (lv' := [(8, .int (iI ((rd + 1 : Nat) : Int))), (11, .int (iI (max z1 (max (lnx d) ((nx rel len (dnx d) j) + tl j))))), (10, .int (iI (((sd (sd P U) (2 ^ j)) : Nat) : Int))), (9, .int (iI (j : Int))), (0, .ref (h 0)), (1, .int (iI (fx : Int))), (2, .int (iI a)), (3, .int (iI b)), (4, .int (iI (cnt P : Int))), (5, .int (iI (U : Int))), (6, .int (iI bs)), (7, .int (iI (d : Int)))]) S.1 S.2.1 dX0_search_227 hl (k := 11) rfl ((iI_add _ _).trans (congrArg iI (by omega))) (by decide) rfl (fun ls hl => ?_)
              refine lv_goto (tgt := 71) S.1 S.2.1 dX0_search_230 (by decide) ?_
              exact ih _ _ _ _ (by omega) ⟨nf, rd + 1, (d : Int), U, bs, u, (updZ trx d (j : Int)), (updZ dnx (d + 1) (nx rel len (dnx d) j)), (updZ lnx (d + 1) (max (lnx d) ((nx rel len (dnx d) j) + tl j))), rfl, by omega, (hC (by omega)), by omega, by omega, w, lv_sub hl [4, 5, 6, 7, 8, 9, 10, 11, 0] rfl⟩
            · refine lv_iload S.1 S.2.1 dX0_search_188 (lv_at hl 1 rfl) ?_
              refine zi_if_ne (tgt := 200) S dX0_search_190 (by decide) (by omega) (fun c36 => ?_) (fun c36 => ?_)
              · obtain ⟨hd4, hwp2⟩ := hB (by omega) (by omega)
                refine lv_iload S.1 S.2.1 dX0_search_200 (lv_at hl 0 rfl) ?_
                refine lv_iload S.1 S.2.1 dX0_search_202 (lv_at hl 9 rfl) ?_
                refine zi_icmp_ge (tgt := 227) S dX0_search_204 (by decide) (by omega) (by omega) (fun c37 => absurd c37 (by omega)) (fun c37 => ?_)
                refine lv_iload S.1 S.2.1 dX0_search_207 (lv_at hl 8 rfl) ?_
                refine zi_iconst S dX0_search_209 ?_
                refine lv_iload S.1 S.2.1 dX0_search_210 (lv_at hl 2 rfl) ?_
                refine zi_shl1 S j (by first | rfl | omega) (by omega) dX0_search_212 ?_
                refine zi_ior S U (2 ^ j) (by first | rfl | omega) (by first | rfl | omega) dX0_search_213 ?_
                refine lv_istore (lv' := [(5, .int (iI (((U ||| (2 ^ j)) : Nat) : Int))), (11, .int (iI (max z1 (max (lnx d) ((nx rel len (dnx d) j) + tl j))))), (10, .int (iI (((sd (sd P U) (2 ^ j)) : Nat) : Int))), (9, .int (iI (j : Int))), (0, .ref (h 0)), (1, .int (iI (fx : Int))), (2, .int (iI a)), (3, .int (iI b)), (4, .int (iI (cnt P : Int))), (6, .int (iI bs)), (7, .int (iI (d : Int))), (8, .int (iI (rd : Int)))]) S.1 S.2.1 dX0_search_214 hl (by decide) rfl (fun ls hl => ?_)
                refine lv_iinc (v := iI ((d + 1 : Nat) : Int)) (lv' := [(7, .int (iI ((d + 1 : Nat) : Int))), (5, .int (iI (((U ||| (2 ^ j)) : Nat) : Int))), (11, .int (iI (max z1 (max (lnx d) ((nx rel len (dnx d) j) + tl j))))), (10, .int (iI (((sd (sd P U) (2 ^ j)) : Nat) : Int))), (9, .int (iI (j : Int))), (0, .ref (h 0)), (1, .int (iI (fx : Int))), (2, .int (iI a)), (3, .int (iI b)), (4, .int (iI (cnt P : Int))), (6, .int (iI bs)), (8, .int (iI (rd : Int)))]) S.1 S.2.1 dX0_search_216 hl (k := 10) rfl ((iI_add _ _).trans (congrArg iI (by omega))) (by decide) rfl (fun ls hl => ?_)
                refine lv_aload_n S.1 S.2.1 dX0_search_219 rfl (lv_at hl 5 rfl) ?_
                refine xg_tr S w dX0_search_220 ?_
                refine lv_iload S.1 S.2.1 dX0_search_223 (lv_at hl 0 rfl) ?_
                refine zi_iconst S dX0_search_225 ?_
                refine xs_tr S w (d + 1) (by first | rfl | omega) (by omega) (by omega) dX0_search_226 (fun H locs w => ?_)
                refine lv_iinc (v := iI ((rd + 1 : Nat) : Int)) (lv' := [(8, .int (iI ((rd + 1 : Nat) : Int))), (7, .int (iI ((d + 1 : Nat) : Int))), (5, .int (iI (((U ||| (2 ^ j)) : Nat) : Int))), (11, .int (iI (max z1 (max (lnx d) ((nx rel len (dnx d) j) + tl j))))), (10, .int (iI (((sd (sd P U) (2 ^ j)) : Nat) : Int))), (9, .int (iI (j : Int))), (0, .ref (h 0)), (1, .int (iI (fx : Int))), (2, .int (iI a)), (3, .int (iI b)), (4, .int (iI (cnt P : Int))), (6, .int (iI bs))]) S.1 S.2.1 dX0_search_227 hl (k := 11) rfl ((iI_add _ _).trans (congrArg iI (by omega))) (by decide) rfl (fun ls hl => ?_)
                refine lv_goto (tgt := 71) S.1 S.2.1 dX0_search_230 (by decide) ?_
                exact ih _ _ _ _ (by omega) ⟨nf, rd + 1, ((d + 1 : Nat) : Int), (U ||| (2 ^ j)), bs, u, (updZ (updZ trx d (j : Int)) (d + 1) (-1)), (updZ dnx (d + 1) (nx rel len (dnx d) j)), (updZ lnx (d + 1) (max (lnx d) ((nx rel len (dnx d) j) + tl j))), rfl, by omega, (by rw [show ((d + 1 : Nat) : Int) = (d : Int) + 1 by omega]; exact hwp2), by omega, by omega, w, lv_sub hl [6, 7, 8, 9, 10, 2, 11, 1, 0] rfl⟩
              · refine lv_iload S.1 S.2.1 dX0_search_193 (lv_at hl 0 rfl) ?_
                refine lv_istore (lv' := [(6, .int (iI (max z1 (max (lnx d) ((nx rel len (dnx d) j) + tl j))))), (11, .int (iI (max z1 (max (lnx d) ((nx rel len (dnx d) j) + tl j))))), (10, .int (iI (((sd (sd P U) (2 ^ j)) : Nat) : Int))), (9, .int (iI (j : Int))), (0, .ref (h 0)), (1, .int (iI (fx : Int))), (2, .int (iI a)), (3, .int (iI b)), (4, .int (iI (cnt P : Int))), (5, .int (iI (U : Int))), (7, .int (iI (d : Int))), (8, .int (iI (rd : Int)))]) S.1 S.2.1 dX0_search_195 hl (by decide) rfl (fun ls hl => ?_)
                refine lv_goto (tgt := 227) S.1 S.2.1 dX0_search_197 (by decide) ?_
                refine lv_iinc (v := iI ((rd + 1 : Nat) : Int)) (lv' := [(8, .int (iI ((rd + 1 : Nat) : Int))), (6, .int (iI (max z1 (max (lnx d) ((nx rel len (dnx d) j) + tl j))))), (11, .int (iI (max z1 (max (lnx d) ((nx rel len (dnx d) j) + tl j))))), (10, .int (iI (((sd (sd P U) (2 ^ j)) : Nat) : Int))), (9, .int (iI (j : Int))), (0, .ref (h 0)), (1, .int (iI (fx : Int))), (2, .int (iI a)), (3, .int (iI b)), (4, .int (iI (cnt P : Int))), (5, .int (iI (U : Int))), (7, .int (iI (d : Int)))]) S.1 S.2.1 dX0_search_227 hl (k := 11) rfl ((iI_add _ _).trans (congrArg iI (by omega))) (by decide) rfl (fun ls hl => ?_)
                refine lv_goto (tgt := 71) S.1 S.2.1 dX0_search_230 (by decide) ?_
                exact ih _ _ _ _ (by omega) ⟨nf, rd + 1, (d : Int), U, (max z1 (max (lnx d) ((nx rel len (dnx d) j) + tl j))), u, (updZ trx d (j : Int)), (updZ dnx (d + 1) (nx rel len (dnx d) j)), (updZ lnx (d + 1) (max (lnx d) ((nx rel len (dnx d) j) + tl j))), rfl, by omega, (hA (by omega) (by omega)), by omega, by omega, w, lv_sub hl [5, 6, 7, 8, 9, 10, 1, 11, 0] rfl⟩
          · obtain rfl := nj_neg hp (by omega)
            have hwp2 := hleave hp
            refine lv_iinc (v := iI ((d : Int) - 1)) (lv' := [(7, .int (iI ((d : Int) - 1))), (9, .int (iI (-1))), (0, .ref (h 0)), (1, .int (iI (fx : Int))), (2, .int (iI a)), (3, .int (iI b)), (4, .int (iI (cnt P : Int))), (5, .int (iI (U : Int))), (6, .int (iI bs)), (8, .int (iI (rd : Int)))]) S.1 S.2.1 dX0_search_115 hl (k := 8) rfl ((iI_add _ _).trans (congrArg iI (by omega))) (by decide) rfl (fun ls hl => ?_)
            refine lv_iload S.1 S.2.1 dX0_search_118 (lv_at hl 0 rfl) ?_
            refine lv_iload_n S.1 S.2.1 dX0_search_120 rfl (lv_at hl 3 rfl) ?_
            refine zi_icmp_lt (tgt := 227) S dX0_search_121 (by decide) (by omega) (by omega) (fun c38 => ?_) (fun c38 => ?_)
            · rw [if_neg (show ¬ fx < d by omega)] at hwp2
              refine lv_iinc (v := iI ((rd + 1 : Nat) : Int)) (lv' := [(8, .int (iI ((rd + 1 : Nat) : Int))), (7, .int (iI ((d : Int) - 1))), (9, .int (iI (-1))), (0, .ref (h 0)), (1, .int (iI (fx : Int))), (2, .int (iI a)), (3, .int (iI b)), (4, .int (iI (cnt P : Int))), (5, .int (iI (U : Int))), (6, .int (iI bs))]) S.1 S.2.1 dX0_search_227 hl (k := 9) rfl ((iI_add _ _).trans (congrArg iI (by omega))) (by decide) rfl (fun ls hl => ?_)
              refine lv_goto (tgt := 71) S.1 S.2.1 dX0_search_230 (by decide) ?_
              exact ih _ _ _ _ (by omega) ⟨nf, rd + 1, ((d : Int) - 1), U, bs, lfx, trx, dnx, lnx, rfl, by omega, hwp2, by omega, by omega, w, lv_sub hl [3, 4, 5, 6, 7, 8, 9, 1, 0] rfl⟩
            · rw [if_pos (show fx < d by omega)] at hwp2
              have hprd := hpr (by omega)
              refine lv_iload S.1 S.2.1 dX0_search_124 (lv_at hl 7 rfl) ?_
              refine zi_iconst S dX0_search_126 ?_
              refine lv_aload_n S.1 S.2.1 dX0_search_127 rfl (lv_at hl 2 rfl) ?_
              refine xg_tr S w dX0_search_128 ?_
              refine lv_iload S.1 S.2.1 dX0_search_131 (lv_at hl 0 rfl) ?_
              refine xl_tr S w (d - 1) (by first | rfl | omega) (by omega) dX0_search_133 ?_
              refine zi_shl1 S (trx (d - 1)).toNat (by first | rfl | omega) (by omega) dX0_search_134 ?_
              refine zi_andnot S U (2 ^ (trx (d - 1)).toNat) (by first | rfl | omega) (by first | rfl | omega) dX0_search_135 dX0_search_136 dX0_search_137 ?_
              refine lv_istore (lv' := [(5, .int (iI (((sd U (2 ^ (trx (d - 1)).toNat)) : Nat) : Int))), (7, .int (iI ((d : Int) - 1))), (9, .int (iI (-1))), (0, .ref (h 0)), (1, .int (iI (fx : Int))), (2, .int (iI a)), (3, .int (iI b)), (4, .int (iI (cnt P : Int))), (6, .int (iI bs)), (8, .int (iI (rd : Int)))]) S.1 S.2.1 dX0_search_138 hl (by decide) rfl (fun ls hl => ?_)
              refine lv_goto (tgt := 227) S.1 S.2.1 dX0_search_140 (by decide) ?_
              refine lv_iinc (v := iI ((rd + 1 : Nat) : Int)) (lv' := [(8, .int (iI ((rd + 1 : Nat) : Int))), (5, .int (iI (((sd U (2 ^ (trx (d - 1)).toNat)) : Nat) : Int))), (7, .int (iI ((d : Int) - 1))), (9, .int (iI (-1))), (0, .ref (h 0)), (1, .int (iI (fx : Int))), (2, .int (iI a)), (3, .int (iI b)), (4, .int (iI (cnt P : Int))), (6, .int (iI bs))]) S.1 S.2.1 dX0_search_227 hl (k := 9) rfl ((iI_add _ _).trans (congrArg iI (by omega))) (by decide) rfl (fun ls hl => ?_)
              refine lv_goto (tgt := 71) S.1 S.2.1 dX0_search_230 (by decide) ?_
              exact ih _ _ _ _ (by omega) ⟨nf, rd + 1, ((d : Int) - 1), (sd U (2 ^ (trx (d - 1)).toNat)), bs, lfx, trx, dnx, lnx, rfl, by omega, hwp2, by omega, by omega, w, lv_sub hl [4, 5, 6, 7, 8, 1, 9, 2, 0] rfl⟩
    · refine lv_aload_n S.1 S.2.1 dX0_search_44 rfl (lv_at hl 0 rfl) ?_
      refine xg_ln S w dX0_search_45 ?_
      refine lv_iload_n S.1 S.2.1 dX0_search_48 rfl (lv_at hl 1 rfl) ?_
      refine xl_ln S w fx (by first | rfl | omega) (by omega) dX0_search_49 ?_
      refine lv_goto (tgt := 55) S.1 S.2.1 dX0_search_50 (by decide) ?_
      refine lv_istore (lv' := [(6, .int (iI (ln fx))), (0, .ref (h 0)), (1, .int (iI (fx : Int))), (2, .int (iI a)), (3, .int (iI b)), (4, .int (iI (cnt P : Int))), (5, .int (iI (um tr fx : Int)))]) S.1 S.2.1 dX0_search_55 hl (by decide) rfl (fun ls hl => ?_)
      refine lv_iload_n S.1 S.2.1 dX0_search_57 rfl (lv_at hl 2 rfl) ?_
      refine lv_istore (lv' := [(7, .int (iI (fx : Int))), (6, .int (iI (ln fx))), (0, .ref (h 0)), (1, .int (iI (fx : Int))), (2, .int (iI a)), (3, .int (iI b)), (4, .int (iI (cnt P : Int))), (5, .int (iI (um tr fx : Int)))]) S.1 S.2.1 dX0_search_58 hl (by decide) rfl (fun ls hl => ?_)
      refine lv_aload_n S.1 S.2.1 dX0_search_60 rfl (lv_at hl 2 rfl) ?_
      refine xg_tr S w dX0_search_61 ?_
      refine lv_iload S.1 S.2.1 dX0_search_64 (lv_at hl 0 rfl) ?_
      refine zi_iconst S dX0_search_66 ?_
      refine xs_tr S w fx (by first | rfl | omega) (by omega) (by omega) dX0_search_67 (fun H locs w => ?_)
      refine zi_iconst S dX0_search_68 ?_
      refine lv_istore (lv' := [(8, .int (iI 0)), (7, .int (iI (fx : Int))), (6, .int (iI (ln fx))), (0, .ref (h 0)), (1, .int (iI (fx : Int))), (2, .int (iI a)), (3, .int (iI b)), (4, .int (iI (cnt P : Int))), (5, .int (iI (um tr fx : Int)))]) S.1 S.2.1 dX0_search_69 hl (by decide) rfl (fun ls hl => ?_)
      refine lv_iload S.1 S.2.1 dX0_search_71 (lv_at hl 0 rfl) ?_
      refine zi_sipush S dX0_search_73 (by decide) ?_
      refine zi_icmp_ge (tgt := 233) S dX0_search_76 (by decide) (by omega) (by omega) (fun c39 => absurd c39 (by omega)) (fun c39 => ?_)
      refine lv_iload S.1 S.2.1 dX0_search_79 (lv_at hl 1 rfl) ?_
      refine lv_iload_n S.1 S.2.1 dX0_search_81 rfl (lv_at hl 4 rfl) ?_
      refine zi_icmp_lt (tgt := 233) S dX0_search_82 (by decide) (by omega) (by omega) (fun c40 => absurd c40 (by omega)) (fun c40 => ?_)
      refine lv_iload_n S.1 S.2.1 dX0_search_85 rfl (lv_at hl 4 rfl) ?_
      refine lv_iload S.1 S.2.1 dX0_search_86 (lv_at hl 7 rfl) ?_
      refine zi_icmp_ge (tgt := 233) S dX0_search_88 (by decide) (by omega) (by omega) (fun c41 => ?_) (fun c41 => absurd c41 (by omega))
      refine lv_iload S.1 S.2.1 dX0_search_233 (lv_at hl 2 rfl) ?_
      exact xreti (lf, updZ tr fx (-1), dn, ln) S hr rfl hlk w ⟨wMin_nil (sd_lt _ hP) (by omega) _ _, by omega, fun k hk => updZ_n (by omega), fun k _ => ⟨rfl, rfl⟩⟩ dX0_search_235
  · refine lv_iload S.1 S.2.1 dX0_search_18 (lv_at hl 5 rfl) ?_
    refine zi_iconst S dX0_search_20 ?_
    refine lv_aload_n S.1 S.2.1 dX0_search_21 rfl (lv_at hl 0 rfl) ?_
    refine xg_tr S w dX0_search_22 ?_
    refine lv_iload S.1 S.2.1 dX0_search_25 (lv_at hl 6 rfl) ?_
    refine xl_tr S w k (by first | rfl | omega) (by omega) dX0_search_27 ?_
    have htrk := htr k (by omega)
    refine zi_shl1 S (tr k).toNat (by first | rfl | omega) (by omega) dX0_search_28 ?_
    refine zi_ior S (um tr k) (2 ^ (tr k).toNat) (by first | rfl | omega) (by first | rfl | omega) dX0_search_29 ?_
    refine lv_istore (lv' := [(5, .int (iI ((((um tr k) ||| (2 ^ (tr k).toNat)) : Nat) : Int))), (0, .ref (h 0)), (1, .int (iI (fx : Int))), (2, .int (iI a)), (3, .int (iI b)), (4, .int (iI (cnt P : Int))), (6, .int (iI (k : Int)))]) S.1 S.2.1 dX0_search_30 hl (by decide) rfl (fun ls hl => ?_)
    refine lv_iinc (v := iI ((k + 1 : Nat) : Int)) (lv' := [(6, .int (iI ((k + 1 : Nat) : Int))), (5, .int (iI ((((um tr k) ||| (2 ^ (tr k).toNat)) : Nat) : Int))), (0, .ref (h 0)), (1, .int (iI (fx : Int))), (2, .int (iI a)), (3, .int (iI b)), (4, .int (iI (cnt P : Int)))]) S.1 S.2.1 dX0_search_32 hl (k := 6) rfl ((iI_add _ _).trans (congrArg iI (by omega))) (by decide) rfl (fun ls hl => ?_)
    refine lv_goto (tgt := 12) S.1 S.2.1 dX0_search_35 (by decide) ?_
    exact ih _ _ _ _ (by omega) ⟨k + 1, rfl, by omega, w, lv_sub hl [2, 3, 4, 5, 6, 1, 0] rfl⟩
end
section
/-! HeadTail: the first best order -/
set_option maxRecDepth 100000
theorem tr_step {tr trx : Nat → Int} {kk k : Nat} (p3 : ∀ i, i < kk → 0 ≤ tr i ∧ tr i ≤ 5) (ag1 : ∀ i, i < kk → trx i = tr i) (hk : k < 6) : ∀ i, i < kk + 1 → 0 ≤ updZ trx kk (k : Int) i ∧ updZ trx kk (k : Int) i ≤ 5 := fun i hi => by
  by_cases q : i = kk
  · subst q; rw [updZ_s]; omega
  · rw [updZ_n q, ag1 i (by omega)]; exact p3 i (by omega)
theorem up_step {P U k : Nat} (p4 : ∀ i, U.testBit i = true → P.testBit i = true) (hk : P.testBit k = true) : ∀ i, (U ||| 2 ^ k).testBit i = true → P.testBit i = true := fun i hi => by
  rw [or_one] at hi
  simp only [Bool.or_eq_true, decide_eq_true_eq] at hi
  rcases hi with hi | hi
  · exact p4 i hi
  · rw [← hi]; exact hk
set_option maxHeartbeats 4000000 in
/-- firstFitting(kk, U) -/
theorem mX_firstFitting (l : Launch) (P : Nat) (rel len tl lf tr dn ln : Nat → Int) (kn ll : Int) (bo : Nat → Int) (hP : P < 64) (hd : dOK rel len tl) (hlen1 : ∀ j, j < 6 → P.testBit j = true → 1 ≤ len j) (kk : Nat) (hkk : kk < cnt P) (hI : lnInv P rel len tl ll kk tr dn ln bo) (hv : 0 ≤ ll ∧ ll < 100000) : CXi l yX0_firstFitting cX0_firstFitting 5 (some .int) 4 106 [.int (iI (kk : Int)), .int (iI (um tr kk : Int))] (P, rel, len, tl, lf, tr, dn, ln, kn, ll, bo) (fun z (u : ((Nat → Int) × (Nat → Int) × (Nat → Int) × (Nat → Int))) => ∃ j : Nat, z = (j : Int) ∧ ffIs P rel len tl ll (um tr kk) (dn kk) (ln kk) j ∧ (∀ i, i < kk → u.2.1 i = tr i) ∧ ∀ i, i ≤ kk → u.2.2.1 i = dn i ∧ u.2.2.2 i = ln i) (fun u => (P, rel, len, tl, u.1, u.2.1, u.2.2.1, u.2.2.2, kn, ll, bo)) := by
  refine CXi.of (by decide) rfl (fun _ => Nat.le_of_ble_eq_true rfl) ?_
  intro p e s m below meth c D h g A S hr hlk w ls hl
  have hl : lv_has ls 5 [(0, .ref (h 0)), (1, .int (iI (kk : Int))), (2, .int (iI ((um tr kk) : Int)))] := hl
  have w : xA D h g A s s.heap P rel len tl lf tr dn ln kn ll bo s.heap [] := w
  have hc6 := cnt_le P
  have hU64 : um tr kk < 64 := um_lt (by obtain ⟨pre, p1, p2, p3, -⟩ := hI; exact p3)
  have hbd : (0 ≤ dn kk ∧ dn kk ≤ 212 * kk) ∧ (0 ≤ ln kk ∧ ln kk ≤ 212 * kk + 200) := by
    obtain ⟨pre, p1, p2, p3, p4, p5, p6, p7, -⟩ := hI
    exact ⟨p6, p7⟩
  refine zi_iconst S dX0_firstFitting_0 ?_
  refine lv_istore_n (lv' := [(3, .int (iI 0)), (0, .ref (h 0)), (1, .int (iI (kk : Int))), (2, .int (iI ((um tr kk) : Int)))]) S.1 S.2.1 dX0_firstFitting_1 rfl hl (by decide) rfl (fun ls hl => ?_)
  refine W_loop (fun n H locs ls => ∃ (k : Nat) (lfx trx dnx lnx : Nat → Int), n = 6 - k ∧ k ≤ 6 ∧ (∀ i, i < k → (sd P (um tr kk)).testBit i = true → ¬ ∃ o, isOrd (sd (sd P (um tr kk)) (2 ^ i)) o ∧ run rel len tl (nx rel len (dn kk) i) (max (ln kk) (nx rel len (dn kk) i + tl i)) o = ll) ∧ ((∀ i, i < kk → trx i = tr i) ∧ ∀ i, i ≤ kk → dnx i = dn i ∧ lnx i = ln i) ∧ xA D h g A s s.heap P rel len tl lfx trx dnx lnx kn ll bo H locs ∧ lv_has ls 5 [(0, .ref (h 0)), (1, .int (iI (kk : Int))), (2, .int (iI (um tr kk : Int))), (3, .int (iI (k : Int)))]) 2 ?_ 6 _ _ _ ⟨0, lf, tr, dn, ln, rfl, by omega, fun i hi => absurd hi (by omega), ⟨fun _ _ => rfl, fun _ _ => ⟨rfl, rfl⟩⟩, w, lv_sub hl [1, 2, 3, 0] rfl⟩
  intro n H locs ls hI2 ih
  obtain ⟨k, lfx, trx, dnx, lnx, hn, hk6, hall, ⟨ag1, ag2⟩, w, hl⟩ := hI2
  obtain ⟨ed, el⟩ := ag2 kk (Nat.le_refl _)
  refine lv_iload_n S.1 S.2.1 dX0_firstFitting_2 rfl (lv_at hl 3 rfl) ?_
  refine zi_bipush S dX0_firstFitting_3 (by decide) ?_
  refine zi_icmp_ge (tgt := 58) S dX0_firstFitting_5 (by decide) (by omega) (by omega) (fun c28 => ?_) (fun c28 => ?_)
  · exfalso
    obtain ⟨j, hj6, hjb, o, ho⟩ := ff_some hP hI hkk
    exact hall j (by omega) hjb ⟨o, ho⟩
  · refine lv_aload_n S.1 S.2.1 dX0_firstFitting_8 rfl (lv_at hl 0 rfl) ?_
    refine lv_iload_n S.1 S.2.1 dX0_firstFitting_9 rfl (lv_at hl 3 rfl) ?_
    refine xcalli [] S w fX_has (mX_has l P rel len tl lfx trx dnx lnx kn ll bo hP (k : Int) (by omega)) rfl ⟨Nat.le_of_ble_eq_true rfl, Nat.le_of_ble_eq_true rfl⟩ hl.1 (Nat.le_of_ble_eq_true rfl) rfl ⟨Nat.zero_le _, Nat.zero_le _⟩ dX0_firstFitting_10 (fun z u H locs hp w => ?_)
    have w : xA D h g A s s.heap P rel len tl lfx trx dnx lnx kn ll bo H locs := w
    rcases hp with ⟨rfl, k0, hk0, hk06, hkP⟩ | ⟨rfl, hno⟩
    · obtain rfl : k = k0 := by omega
      refine zi_if_eq (tgt := 52) S dX0_firstFitting_13 (by decide) (by omega) (fun c29 => absurd c29 (by omega)) (fun c29 => ?_)
      refine lv_iload_n S.1 S.2.1 dX0_firstFitting_16 rfl (lv_at hl 2 rfl) ?_
      refine lv_iload_n S.1 S.2.1 dX0_firstFitting_17 rfl (lv_at hl 3 rfl) ?_
      refine zi_bit S (um tr kk) k (by first | rfl | omega) (by first | rfl | omega) (by omega) (by omega) dX0_firstFitting_18 dX0_firstFitting_19 dX0_firstFitting_20 ?_
      have hbz := bz_r (um tr kk) k
      refine zi_if_ne (tgt := 52) S dX0_firstFitting_21 (by decide) (by omega) (fun c30 => ?_) (fun c30 => ?_)
      · have c30 : ((um tr kk)).testBit k = true := bz_n0 c30
        refine lv_iinc (v := iI ((k + 1 : Nat) : Int)) (lv' := [(3, .int (iI ((k + 1 : Nat) : Int))), (0, .ref (h 0)), (1, .int (iI (kk : Int))), (2, .int (iI ((um tr kk) : Int)))]) S.1 S.2.1 dX0_firstFitting_52 hl (k := 3) rfl ((iI_add _ _).trans (congrArg iI (by omega))) (by decide) rfl (fun ls hl => ?_)
        refine lv_goto (tgt := 2) S.1 S.2.1 dX0_firstFitting_55 (by decide) ?_
        exact ih _ _ _ _ (by omega) ⟨k + 1, lfx, trx, dnx, lnx, rfl, by omega, lt_s hall (fun q => by rw [sd_bit, c30] at q; simp at q), ⟨ag1, ag2⟩, w, lv_sub hl [1, 2, 3, 0] rfl⟩
      · have c30 : ((um tr kk)).testBit k = false := bz_0.mp c30
        have hbk : (sd P (um tr kk)).testBit k = true := by rw [sd_bit, hkP, c30]; rfl
        have hdk := hd k hk06
        have hcn := cnt_one hk06 hbk
        refine lv_aload_n S.1 S.2.1 dX0_firstFitting_24 rfl (lv_at hl 0 rfl) ?_
        refine lv_iload_n S.1 S.2.1 dX0_firstFitting_25 rfl (lv_at hl 1 rfl) ?_
        refine lv_iload_n S.1 S.2.1 dX0_firstFitting_26 rfl (lv_at hl 3 rfl) ?_
        refine xcallv [] S w fX_place (mX_place l P rel len tl lfx trx dnx lnx kn ll bo hd kk k (by omega) hk06 (by rw [ed]; omega) (by rw [el]; omega)) rfl ⟨Nat.le_of_ble_eq_true rfl, Nat.le_of_ble_eq_true rfl⟩ hl.1 (Nat.le_of_ble_eq_true rfl) rfl ⟨Nat.zero_le _, Nat.zero_le _⟩ dX0_firstFitting_27 (fun u H locs hp w => ?_)
        have w : xA D h g A s s.heap P rel len tl lfx (updZ trx kk (k : Int)) (updZ dnx (kk + 1) (nx rel len (dnx kk) k)) (updZ lnx (kk + 1) (max (lnx kk) ((nx rel len (dnx kk) k) + tl k))) kn ll bo H locs := w
        refine lv_aload_n S.1 S.2.1 dX0_firstFitting_30 rfl (lv_at hl 0 rfl) ?_
        refine lv_iload_n S.1 S.2.1 dX0_firstFitting_31 rfl (lv_at hl 1 rfl) ?_
        refine zi_iconst S dX0_firstFitting_32 ?_
        refine zi_iadd S dX0_firstFitting_33 ?_
        refine W_is ((kk + 1 : Nat) : Int) (by omega) ?_
        refine zi_iconst S dX0_firstFitting_34 ?_
        refine zi_iconst S dX0_firstFitting_35 ?_
        have eU : um (updZ trx kk (k : Int)) (kk + 1) = um tr kk ||| 2 ^ k := um_step ag1
        have eS : sd P (um tr kk ||| 2 ^ k) = sd (sd P (um tr kk)) (2 ^ k) := (sd_sd_one P _ k).symm
        have eT : (updZ dnx (kk + 1) (nx rel len (dnx kk) k)) (kk + 1) = nx rel len (dn kk) k := by rw [updZ_s, ed]
        have eL : (updZ lnx (kk + 1) (max (lnx kk) ((nx rel len (dnx kk) k) + tl k))) (kk + 1) = max (ln kk) (nx rel len (dn kk) k + tl k) := by rw [updZ_s, ed, el]
        have hnx : 0 ≤ nx rel len (dn kk) k ∧ nx rel len (dn kk) k ≤ 212 * (kk + 1) := by unfold nx; omega
        obtain ⟨pre, p1, p2, p3, p4, p5, p6, p7, -⟩ := id hI
        refine xcalli [] S w fX_search (mX_search l P rel len tl lfx (updZ trx kk (k : Int)) (updZ dnx (kk + 1) (nx rel len (dnx kk) k)) (updZ lnx (kk + 1) (max (lnx kk) ((nx rel len (dnx kk) k) + tl k))) kn ll bo hP hd hlen1 (kk + 1) (-1) (-1) (by omega) (by omega) (tr_step p3 ag1 hk06) (by rw [eU]; exact up_step p4 hkP) (by rw [eU, eS]; omega) (by rw [eT]; omega) (by rw [eL]; omega)) rfl ⟨Nat.le_of_ble_eq_true rfl, Nat.le_of_ble_eq_true rfl⟩ hl.1 (Nat.le_of_ble_eq_true rfl) rfl ⟨Nat.zero_le _, Nat.zero_le _⟩ dX0_firstFitting_36 (fun z u H locs hp w => ?_)
        obtain ⟨lfy, try_, dny, lny⟩ := u
        have w : xA D h g A s s.heap P rel len tl lfy try_ dny lny kn ll bo H locs := w
        obtain ⟨hm, hz, hg1, hg2⟩ := hp
        rw [eU, eS, eT, eL] at hm
        have hg1 : ∀ i, i < kk + 1 → try_ i = (updZ trx kk (k : Int)) i := hg1
        have hg2 : ∀ i, i ≤ kk + 1 → dny i = (updZ dnx (kk + 1) (nx rel len (dnx kk) k)) i ∧ lny i = (updZ lnx (kk + 1) (max (lnx kk) ((nx rel len (dnx kk) k) + tl k))) i := hg2
        have hiff := ff_iff hd hP hI hbk hv.2 hm
        have ag1y : ∀ i, i < kk → try_ i = tr i := fun i hi => by rw [hg1 i (by omega), updZ_n (by omega)]; exact ag1 i hi
        have ag2y : ∀ i, i ≤ kk → dny i = dn i ∧ lny i = ln i := fun i hi => by rw [(hg2 i (by omega)).1, (hg2 i (by omega)).2, updZ_n (by omega), updZ_n (by omega)]; exact ag2 i hi
        obtain ⟨zz, rfl⟩ : ∃ zz, zz = z := ⟨_, rfl⟩
        refine lv_istore (lv' := [(4, .int (iI zz)), (0, .ref (h 0)), (1, .int (iI (kk : Int))), (2, .int (iI ((um tr kk) : Int))), (3, .int (iI (k : Int)))]) S.1 S.2.1 dX0_firstFitting_39 hl (by decide) rfl (fun ls hl => ?_)
        refine lv_iload S.1 S.2.1 dX0_firstFitting_41 (lv_at hl 0 rfl) ?_
        refine lv_aload_n S.1 S.2.1 dX0_firstFitting_43 rfl (lv_at hl 1 rfl) ?_
        refine xg_ll S w dX0_firstFitting_44 ?_
        refine zi_icmp_ne (tgt := 52) S dX0_firstFitting_47 (by decide) (by omega) (by omega) (fun c31 => ?_) (fun c31 => ?_)
        · refine lv_iinc (v := iI ((k + 1 : Nat) : Int)) (lv' := [(3, .int (iI ((k + 1 : Nat) : Int))), (4, .int (iI zz)), (0, .ref (h 0)), (1, .int (iI (kk : Int))), (2, .int (iI ((um tr kk) : Int)))]) S.1 S.2.1 dX0_firstFitting_52 hl (k := 4) rfl ((iI_add _ _).trans (congrArg iI (by omega))) (by decide) rfl (fun ls hl => ?_)
          refine lv_goto (tgt := 2) S.1 S.2.1 dX0_firstFitting_55 (by decide) ?_
          exact ih _ _ _ _ (by omega) ⟨k + 1, lfy, try_, dny, lny, rfl, by omega, lt_s hall (fun _ q => c31 (hiff.mpr q)), ⟨ag1y, ag2y⟩, w, lv_sub hl [2, 3, 4, 0] rfl⟩
        · refine lv_iload_n S.1 S.2.1 dX0_firstFitting_50 rfl (lv_at hl 4 rfl) ?_
          exact xreti (lfy, try_, dny, lny) S hr rfl hlk w ⟨k, rfl, ⟨hk06, hbk, hall, hiff.mp (by omega)⟩, ag1y, ag2y⟩ dX0_firstFitting_51
    · have hkn : P.testBit k = false := hno k rfl (by omega)
      refine zi_if_eq (tgt := 52) S dX0_firstFitting_13 (by decide) (by omega) (fun c32 => ?_) (fun c32 => absurd c32 (by omega))
      refine lv_iinc (v := iI ((k + 1 : Nat) : Int)) (lv' := [(3, .int (iI ((k + 1 : Nat) : Int))), (0, .ref (h 0)), (1, .int (iI (kk : Int))), (2, .int (iI ((um tr kk) : Int)))]) S.1 S.2.1 dX0_firstFitting_52 hl (k := 3) rfl ((iI_add _ _).trans (congrArg iI (by omega))) (by decide) rfl (fun ls hl => ?_)
      refine lv_goto (tgt := 2) S.1 S.2.1 dX0_firstFitting_55 (by decide) ?_
      exact ih _ _ _ _ (by omega) ⟨k + 1, lfx, trx, dnx, lnx, rfl, by omega, lt_s hall (fun q => by rw [sd_bit, hkn] at q; cases q), ⟨ag1, ag2⟩, w, lv_sub hl [1, 2, 3, 0] rfl⟩
set_option maxHeartbeats 4000000 in
/-- learn() -/
theorem mX_learn (l : Launch) (P : Nat) (rel len tl lf tr dn ln : Nat → Int) (kn ll : Int) (bo : Nat → Int) (hP : P < 64) (hd : dOK rel len tl) (hlen1 : ∀ j, j < 6 → P.testBit j = true → 1 ≤ len j) (hkn : knst P rel len tl kn ll bo) : CXv l yX0_learn cX0_learn 5 5 130 [] (P, rel, len, tl, lf, tr, dn, ln, kn, ll, bo) (fun (u : ((Nat → Int) × (Nat → Int) × (Nat → Int) × (Nat → Int) × Int × Int × (Nat → Int))) => u.2.2.2.2.1 = 1 ∧ (0 ≤ u.2.2.2.2.2.1 ∧ u.2.2.2.2.2.1 ≤ 100000) ∧ knOK P rel len tl u.2.2.2.2.2.1 u.2.2.2.2.2.2) (fun u => (P, rel, len, tl, u.1, u.2.1, u.2.2.1, u.2.2.2.1, u.2.2.2.2.1, u.2.2.2.2.2.1, u.2.2.2.2.2.2)) := by
  refine CXv.of (by decide) rfl (fun _ => Nat.le_of_ble_eq_true rfl) ?_
  intro p e s m below meth c D h g A S hr hlk w ls hl
  have hl : lv_has ls 5 [(0, .ref (h 0))] := hl
  have w : xA D h g A s s.heap P rel len tl lf tr dn ln kn ll bo s.heap [] := w
  have hc6 := cnt_le P
  have hknr : kn = 0 ∨ kn = 1 := by rcases hkn with q | ⟨q, -⟩ <;> omega
  refine lv_aload_n S.1 S.2.1 dX0_learn_0 rfl (lv_at hl 0 rfl) ?_
  refine xg_kn S w dX0_learn_1 ?_
  refine zi_if_eq (tgt := 8) S dX0_learn_4 (by decide) (by omega) (fun c33 => ?_) (fun c33 => ?_)
  · refine lv_aload_n S.1 S.2.1 dX0_learn_8 rfl (lv_at hl 0 rfl) ?_
    refine zi_iconst S dX0_learn_9 ?_
    refine xp_kn S w (by omega) dX0_learn_10 (fun H locs w => ?_)
    refine lv_aload_n S.1 S.2.1 dX0_learn_13 rfl (lv_at hl 0 rfl) ?_
    refine xcallv [] S w fX_begin (mX_begin l P rel len tl lf tr dn ln 1 ll bo) rfl ⟨Nat.le_of_ble_eq_true rfl, Nat.le_of_ble_eq_true rfl⟩ hl.1 (Nat.le_of_ble_eq_true rfl) rfl ⟨Nat.zero_le _, Nat.zero_le _⟩ dX0_learn_14 (fun u H locs hp w => ?_)
    have w : xA D h g A s s.heap P rel len tl lf tr (updZ dn 0 0) (updZ ln 0 0) 1 ll bo H locs := w
    refine lv_aload_n S.1 S.2.1 dX0_learn_17 rfl (lv_at hl 0 rfl) ?_
    refine lv_aload_n S.1 S.2.1 dX0_learn_18 rfl (lv_at hl 0 rfl) ?_
    refine zi_iconst S dX0_learn_19 ?_
    refine zi_iconst S dX0_learn_20 ?_
    refine zi_iconst S dX0_learn_21 ?_
    refine xcalli [.ref (h 0)] S w fX_search (mX_search l P rel len tl lf tr (updZ dn 0 0) (updZ ln 0 0) 1 ll bo hP hd hlen1 0 (-1) (-1) (by omega) (by omega) (fun i hi => absurd hi (by omega)) (fun i hi => by have q : (0 : Nat).testBit i = true := hi; simp at q) (by rw [show um tr 0 = 0 from rfl, sd_zero]; omega) (by rw [updZ_s]; omega) (by rw [updZ_s]; omega)) rfl ⟨Nat.le_of_ble_eq_true rfl, Nat.le_of_ble_eq_true rfl⟩ hl.1 (Nat.le_of_ble_eq_true rfl) rfl ⟨Nat.zero_le _, Nat.zero_le _⟩ dX0_learn_22 (fun z u H locs hp w => ?_)
    obtain ⟨lfy, try_, dny, lny⟩ := u
    have w : xA D h g A s s.heap P rel len tl lfy try_ dny lny 1 ll bo H locs := w
    obtain ⟨hm, hz, -, hg2⟩ := hp
    obtain ⟨g1, g2⟩ := hg2 0 (Nat.le_refl _)
    rw [updZ_s, updZ_s, show um tr 0 = 0 from rfl, sd_zero] at hm
    rw [updZ_s] at g1 g2
    obtain ⟨zz, rfl⟩ : ∃ zz, zz = z := ⟨_, rfl⟩
    refine xp_ll S w dX0_learn_25 (fun H locs w => ?_)
    refine lv_aload_n S.1 S.2.1 dX0_learn_28 rfl (lv_at hl 0 rfl) ?_
    refine xcalli [] S w fX_count (mX_count l P rel len tl lfy try_ dny lny 1 zz bo hP) rfl ⟨Nat.le_of_ble_eq_true rfl, Nat.le_of_ble_eq_true rfl⟩ hl.1 (Nat.le_of_ble_eq_true rfl) rfl ⟨Nat.zero_le _, Nat.zero_le _⟩ dX0_learn_29 (fun z u H locs hp w => ?_)
    subst hp
    have w : xA D h g A s s.heap P rel len tl lfy try_ dny lny 1 zz bo H locs := w
    refine lv_istore_n (lv' := [(1, .int (iI (cnt P : Int))), (0, .ref (h 0))]) S.1 S.2.1 dX0_learn_32 rfl hl (by decide) rfl (fun ls hl => ?_)
    refine zi_iconst S dX0_learn_33 ?_
    refine lv_istore_n (lv' := [(2, .int (iI 0)), (1, .int (iI (cnt P : Int))), (0, .ref (h 0))]) S.1 S.2.1 dX0_learn_34 rfl hl (by decide) rfl (fun ls hl => ?_)
    refine zi_iconst S dX0_learn_35 ?_
    refine lv_istore_n (lv' := [(3, .int (iI 0)), (2, .int (iI 0)), (1, .int (iI (cnt P : Int))), (0, .ref (h 0))]) S.1 S.2.1 dX0_learn_36 rfl hl (by decide) rfl (fun ls hl => ?_)
    have hv : zz < 100000 := (wMin_real hd hP (by omega) (by omega) hm).1
    refine W_loop (fun n H locs ls => ∃ (kk : Nat) (lfx trx dnx lnx box : Nat → Int), n = cnt P - kk ∧ kk ≤ cnt P ∧ lnInv P rel len tl zz kk trx dnx lnx box ∧ xA D h g A s s.heap P rel len tl lfx trx dnx lnx 1 zz box H locs ∧ lv_has ls 5 [(0, .ref (h 0)), (1, .int (iI (cnt P : Int))), (2, .int (iI (um trx kk : Int))), (3, .int (iI (kk : Int)))]) 37 ?_ (cnt P) _ _ _ ⟨0, lfy, try_, dny, lny, bo, rfl, by omega, ln_init hd hP hm g1 g2, w, lv_sub hl [3, 2, 1, 0] rfl⟩
    intro n H locs ls hI2 ih
    obtain ⟨kk, lfx, trx, dnx, lnx, box, hn, hk6, hI, w, hl⟩ := hI2
    refine lv_iload_n S.1 S.2.1 dX0_learn_37 rfl (lv_at hl 3 rfl) ?_
    refine lv_iload_n S.1 S.2.1 dX0_learn_38 rfl (lv_at hl 1 rfl) ?_
    refine zi_icmp_ge (tgt := 79) S dX0_learn_39 (by decide) (by omega) (by omega) (fun c34 => ?_) (fun c34 => ?_)
    · obtain rfl : kk = cnt P := by omega
      exact xretv (lfx, trx, dnx, lnx, 1, zz, box) S hr hlk w ⟨rfl, hz, hm, ln_end hP hI⟩ dX0_learn_79
    · refine lv_aload_n S.1 S.2.1 dX0_learn_42 rfl (lv_at hl 0 rfl) ?_
      refine lv_iload_n S.1 S.2.1 dX0_learn_43 rfl (lv_at hl 3 rfl) ?_
      refine lv_iload_n S.1 S.2.1 dX0_learn_44 rfl (lv_at hl 2 rfl) ?_
      refine xcalli [] S w fX_firstFitting (mX_firstFitting l P rel len tl lfx trx dnx lnx 1 zz box hP hd hlen1 kk (by omega) hI (by omega)) rfl ⟨Nat.le_of_ble_eq_true rfl, Nat.le_of_ble_eq_true rfl⟩ hl.1 (Nat.le_of_ble_eq_true rfl) rfl ⟨Nat.zero_le _, Nat.zero_le _⟩ dX0_learn_45 (fun z u H locs hp w => ?_)
      obtain ⟨lfz, trz, dnz, lnz⟩ := u
      have w : xA D h g A s s.heap P rel len tl lfz trz dnz lnz 1 zz box H locs := w
      obtain ⟨j, rfl, hff, hg1, hg2⟩ := hp
      have hj6 : j < 6 := hff.1
      obtain ⟨ed, el⟩ := hg2 kk (Nat.le_refl _)
      have ed : dnz kk = dnx kk := ed
      have el : lnz kk = lnx kk := el
      have hg1 : ∀ i, i < kk → trz i = trx i := hg1
      have hg2 : ∀ i, i ≤ kk → dnz i = dnx i ∧ lnz i = lnx i := hg2
      have hI3 := ln_step hd hP hI hff hg1 hg2
      have hbd : (0 ≤ dnx kk ∧ dnx kk ≤ 212 * kk) ∧ (0 ≤ lnx kk ∧ lnx kk ≤ 212 * kk + 200) := by
        obtain ⟨pre, p1, p2, p3, p4, p5, p6, p7, -⟩ := hI
        exact ⟨p6, p7⟩
      refine lv_istore (lv' := [(4, .int (iI (j : Int))), (0, .ref (h 0)), (1, .int (iI (cnt P : Int))), (2, .int (iI ((um trx kk) : Int))), (3, .int (iI (kk : Int)))]) S.1 S.2.1 dX0_learn_48 hl (by decide) rfl (fun ls hl => ?_)
      refine lv_aload_n S.1 S.2.1 dX0_learn_50 rfl (lv_at hl 1 rfl) ?_
      refine xg_bo S w dX0_learn_51 ?_
      refine lv_iload_n S.1 S.2.1 dX0_learn_54 rfl (lv_at hl 4 rfl) ?_
      refine lv_iload S.1 S.2.1 dX0_learn_55 (lv_at hl 0 rfl) ?_
      refine zi_i2b S (by omega) dX0_learn_57 ?_
      refine xs_bo S w kk (by first | rfl | omega) (by omega) (by omega) dX0_learn_58 (fun H locs w => ?_)
      refine lv_iload_n S.1 S.2.1 dX0_learn_59 rfl (lv_at hl 3 rfl) ?_
      refine zi_iconst S dX0_learn_60 ?_
      refine lv_iload S.1 S.2.1 dX0_learn_61 (lv_at hl 0 rfl) ?_
      refine zi_shl1 S j (by first | rfl | omega) (by omega) dX0_learn_63 ?_
      refine zi_ior S (um trx kk) (2 ^ j) (by first | rfl | omega) (by first | rfl | omega) dX0_learn_64 ?_
      refine lv_istore_n (lv' := [(2, .int (iI ((((um trx kk) ||| (2 ^ j)) : Nat) : Int))), (4, .int (iI (j : Int))), (0, .ref (h 0)), (1, .int (iI (cnt P : Int))), (3, .int (iI (kk : Int)))]) S.1 S.2.1 dX0_learn_65 rfl hl (by decide) rfl (fun ls hl => ?_)
      refine lv_aload_n S.1 S.2.1 dX0_learn_66 rfl (lv_at hl 2 rfl) ?_
      refine lv_iload_n S.1 S.2.1 dX0_learn_67 rfl (lv_at hl 4 rfl) ?_
      refine lv_iload S.1 S.2.1 dX0_learn_68 (lv_at hl 1 rfl) ?_
      refine xcallv [] S w fX_place (mX_place l P rel len tl lfz trz dnz lnz 1 zz (updZ box kk (j : Int)) hd kk j (by omega) hj6 (by rw [ed]; omega) (by rw [el]; omega)) rfl ⟨Nat.le_of_ble_eq_true rfl, Nat.le_of_ble_eq_true rfl⟩ hl.1 (Nat.le_of_ble_eq_true rfl) rfl ⟨Nat.zero_le _, Nat.zero_le _⟩ dX0_learn_70 (fun u H locs hp w => ?_)
      have w : xA D h g A s s.heap P rel len tl lfz (updZ trz kk (j : Int)) (updZ dnz (kk + 1) (nx rel len (dnz kk) j)) (updZ lnz (kk + 1) (max (lnz kk) ((nx rel len (dnz kk) j) + tl j))) 1 zz (updZ box kk (j : Int)) H locs := w
      refine lv_iinc (v := iI ((kk + 1 : Nat) : Int)) (lv' := [(3, .int (iI ((kk + 1 : Nat) : Int))), (2, .int (iI ((((um trx kk) ||| (2 ^ j)) : Nat) : Int))), (4, .int (iI (j : Int))), (0, .ref (h 0)), (1, .int (iI (cnt P : Int)))]) S.1 S.2.1 dX0_learn_73 hl (k := 4) rfl ((iI_add _ _).trans (congrArg iI (by omega))) (by decide) rfl (fun ls hl => ?_)
      refine lv_goto (tgt := 37) S.1 S.2.1 dX0_learn_76 (by decide) ?_
      exact ih _ _ _ _ (by omega) ⟨kk + 1, lfz, (updZ trz kk (j : Int)), (updZ dnz (kk + 1) (nx rel len (dnz kk) j)), (updZ lnz (kk + 1) (max (lnz kk) ((nx rel len (dnz kk) j) + tl j))), (updZ box kk (j : Int)), rfl, by omega, hI3, w, by rw [um_step hg1]; exact lv_sub hl [3, 4, 1, 0] rfl⟩
  · have hq := Or.resolve_left hkn (by omega)
    exact xretv (lf, tr, dn, ln, kn, ll, bo) S hr hlk w ⟨hq.1, hq.2.1, hq.2.2⟩ dX0_learn_7
set_option maxHeartbeats 4000000 in
/-- least() -/
theorem mX_least (l : Launch) (P : Nat) (rel len tl lf tr dn ln : Nat → Int) (kn ll : Int) (bo : Nat → Int) (hP : P < 64) (hd : dOK rel len tl) (hlen1 : ∀ j, j < 6 → P.testBit j = true → 1 ≤ len j) (hkn : knst P rel len tl kn ll bo) : CXi l yX0_least cX0_least 1 (some .int) 6 154 [] (P, rel, len, tl, lf, tr, dn, ln, kn, ll, bo) (fun z (u : ((Nat → Int) × (Nat → Int) × (Nat → Int) × (Nat → Int) × Int × Int × (Nat → Int))) => knst P rel len tl u.2.2.2.2.1 u.2.2.2.2.2.1 u.2.2.2.2.2.2 ∧ wMin rel len tl (-1) (-1) P 0 0 0 z) (fun u => (P, rel, len, tl, u.1, u.2.1, u.2.2.1, u.2.2.2.1, u.2.2.2.2.1, u.2.2.2.2.2.1, u.2.2.2.2.2.2)) := by
  refine CXi.of (by decide) rfl (fun _ => Nat.le_of_ble_eq_true rfl) ?_
  intro p e s m below meth c D h g A S hr hlk w ls hl
  have hl : lv_has ls 1 [(0, .ref (h 0))] := hl
  have w : xA D h g A s s.heap P rel len tl lf tr dn ln kn ll bo s.heap [] := w
  refine lv_aload_n S.1 S.2.1 dX0_least_0 rfl (lv_at hl 0 rfl) ?_
  refine xcallv [] S w fX_learn (mX_learn l P rel len tl lf tr dn ln kn ll bo hP hd hlen1 hkn) rfl ⟨Nat.le_of_ble_eq_true rfl, Nat.le_of_ble_eq_true rfl⟩ hl.1 (Nat.le_of_ble_eq_true rfl) rfl ⟨Nat.zero_le _, Nat.zero_le _⟩ dX0_least_1 (fun u H locs hp w => ?_)
  obtain ⟨lfy, try_, dny, lny, kny, lly, boy⟩ := u
  have w : xA D h g A s s.heap P rel len tl lfy try_ dny lny kny lly boy H locs := w
  obtain ⟨hk1, hll, hok⟩ := hp
  have hk1 : kny = 1 := hk1
  have hll : 0 ≤ lly ∧ lly ≤ 100000 := hll
  have hok : knOK P rel len tl lly boy := hok
  have hkn2 : knst P rel len tl kny lly boy := Or.inr ⟨hk1, hll, hok⟩
  refine lv_aload_n S.1 S.2.1 dX0_least_4 rfl (lv_at hl 0 rfl) ?_
  refine xg_ll S w dX0_least_5 ?_
  exact xreti (lfy, try_, dny, lny, kny, lly, boy) S hr rfl hlk w ⟨hkn2, hok.1⟩ dX0_least_8
set_option maxHeartbeats 4000000 in
/-- bestAt(k) -/
theorem mX_bestAt (l : Launch) (P : Nat) (rel len tl lf tr dn ln : Nat → Int) (kn ll : Int) (bo : Nat → Int) (hP : P < 64) (hd : dOK rel len tl) (hlen1 : ∀ j, j < 6 → P.testBit j = true → 1 ≤ len j) (hkn : knst P rel len tl kn ll bo) (k : Int) (hk : -2147483648 ≤ k ∧ k ≤ 2147483647) : CXi l yX0_bestAt cX0_bestAt 2 (some .int) 6 154 [.int (iI k)] (P, rel, len, tl, lf, tr, dn, ln, kn, ll, bo) (fun z (u : ((Nat → Int) × (Nat → Int) × (Nat → Int) × (Nat → Int) × Int × Int × (Nat → Int))) => knst P rel len tl u.2.2.2.2.1 u.2.2.2.2.2.1 u.2.2.2.2.2.2 ∧ ((z = -1 ∧ ¬ (0 ≤ k ∧ k < cnt P)) ∨ ∃ i : Nat, k = (i : Int) ∧ i < cnt P ∧ ∃ v, wMin rel len tl (-1) (-1) P 0 0 0 v ∧ ∃ o, fst rel len tl v P 0 0 o ∧ z = ((o.getD i 0 : Nat) : Int))) (fun u => (P, rel, len, tl, u.1, u.2.1, u.2.2.1, u.2.2.2.1, u.2.2.2.2.1, u.2.2.2.2.2.1, u.2.2.2.2.2.2)) := by
  refine CXi.of (by decide) rfl (fun _ => Nat.le_of_ble_eq_true rfl) ?_
  intro p e s m below meth c D h g A S hr hlk w ls hl
  have hl : lv_has ls 2 [(0, .ref (h 0)), (1, .int (iI k))] := hl
  have w : xA D h g A s s.heap P rel len tl lf tr dn ln kn ll bo s.heap [] := w
  have hc6 := cnt_le P
  refine lv_iload_n S.1 S.2.1 dX0_bestAt_0 rfl (lv_at hl 1 rfl) ?_
  refine zi_if_lt (tgt := 12) S dX0_bestAt_1 (by decide) (by omega) (fun c35 => ?_) (fun c35 => ?_)
  · refine zi_iconst S dX0_bestAt_12 ?_
    exact xreti (lf, tr, dn, ln, kn, ll, bo) S hr rfl hlk w ⟨hkn, Or.inl ⟨rfl, by omega⟩⟩ dX0_bestAt_13
  · refine lv_iload_n S.1 S.2.1 dX0_bestAt_4 rfl (lv_at hl 1 rfl) ?_
    refine lv_aload_n S.1 S.2.1 dX0_bestAt_5 rfl (lv_at hl 0 rfl) ?_
    refine xcalli [.int (iI k)] S w fX_count (mX_count l P rel len tl lf tr dn ln kn ll bo hP) rfl ⟨Nat.le_of_ble_eq_true rfl, Nat.le_of_ble_eq_true rfl⟩ hl.1 (Nat.le_of_ble_eq_true rfl) rfl ⟨Nat.zero_le _, Nat.zero_le _⟩ dX0_bestAt_6 (fun z u H locs hp w => ?_)
    subst hp
    have w : xA D h g A s s.heap P rel len tl lf tr dn ln kn ll bo H locs := w
    refine zi_icmp_lt (tgt := 14) S dX0_bestAt_9 (by decide) (by omega) (by omega) (fun c36 => ?_) (fun c36 => ?_)
    · obtain ⟨i, rfl⟩ : ∃ i : Nat, k = (i : Int) := ⟨k.toNat, by omega⟩
      refine lv_aload_n S.1 S.2.1 dX0_bestAt_14 rfl (lv_at hl 0 rfl) ?_
      refine xcallv [] S w fX_learn (mX_learn l P rel len tl lf tr dn ln kn ll bo hP hd hlen1 hkn) rfl ⟨Nat.le_of_ble_eq_true rfl, Nat.le_of_ble_eq_true rfl⟩ hl.1 (Nat.le_of_ble_eq_true rfl) rfl ⟨Nat.zero_le _, Nat.zero_le _⟩ dX0_bestAt_15 (fun u H locs hp w => ?_)
      obtain ⟨lfy, try_, dny, lny, kny, lly, boy⟩ := u
      have w : xA D h g A s s.heap P rel len tl lfy try_ dny lny kny lly boy H locs := w
      obtain ⟨hk1, hll, hok⟩ := hp
      have hk1 : kny = 1 := hk1
      have hll : 0 ≤ lly ∧ lly ≤ 100000 := hll
      have hok : knOK P rel len tl lly boy := hok
      have hkn2 : knst P rel len tl kny lly boy := Or.inr ⟨hk1, hll, hok⟩
      refine lv_aload_n S.1 S.2.1 dX0_bestAt_18 rfl (lv_at hl 0 rfl) ?_
      refine xg_bo S w dX0_bestAt_19 ?_
      refine lv_iload_n S.1 S.2.1 dX0_bestAt_22 rfl (lv_at hl 1 rfl) ?_
      refine xl_bo S w i (by first | rfl | omega) (by omega) dX0_bestAt_23 ?_
      obtain ⟨hm, o, ho, hbo⟩ := hok
      exact xreti (lfy, try_, dny, lny, kny, lly, boy) S hr rfl hlk w ⟨hkn2, Or.inr ⟨i, rfl, by omega, lly, hm, o, ho, hbo i (by omega)⟩⟩ dX0_bestAt_24
    · refine zi_iconst S dX0_bestAt_12 ?_
      exact xreti (lf, tr, dn, ln, kn, ll, bo) S hr rfl hlk w ⟨hkn, Or.inl ⟨rfl, by omega⟩⟩ dX0_bestAt_13
set_option maxHeartbeats 4000000 in
/-- begins(j) -/
theorem mX_begins (l : Launch) (P : Nat) (rel len tl lf tr dn ln : Nat → Int) (kn ll : Int) (bo : Nat → Int) (hP : P < 64) (hd : dOK rel len tl) (hlen1 : ∀ j, j < 6 → P.testBit j = true → 1 ≤ len j) (hkn : knst P rel len tl kn ll bo) (j : Int) (hj : -2147483648 ≤ j ∧ j ≤ 2147483647) : CXi l yX0_begins cX0_begins 3 (some .int) 6 154 [.int (iI j)] (P, rel, len, tl, lf, tr, dn, ln, kn, ll, bo) (fun z (u : ((Nat → Int) × (Nat → Int) × (Nat → Int) × (Nat → Int) × Int × Int × (Nat → Int))) => knst P rel len tl u.2.2.2.2.1 u.2.2.2.2.2.1 u.2.2.2.2.2.2 ∧ ((z = -1 ∧ ∀ k : Nat, j = (k : Int) → k < 6 → P.testBit k = false) ∨ ∃ k : Nat, j = (k : Int) ∧ k < 6 ∧ P.testBit k = true ∧ ∃ v, wMin rel len tl (-1) (-1) P 0 0 0 v ∧ ∃ o, fst rel len tl v P 0 0 o ∧ z = beg rel len 0 o k)) (fun u => (P, rel, len, tl, u.1, u.2.1, u.2.2.1, u.2.2.2.1, u.2.2.2.2.1, u.2.2.2.2.2.1, u.2.2.2.2.2.2)) := by
  refine CXi.of (by decide) rfl (fun _ => Nat.le_of_ble_eq_true rfl) ?_
  intro p e s m below meth c D h g A S hr hlk w ls hl
  have hl : lv_has ls 3 [(0, .ref (h 0)), (1, .int (iI j))] := hl
  have w : xA D h g A s s.heap P rel len tl lf tr dn ln kn ll bo s.heap [] := w
  have hc6 := cnt_le P
  refine lv_aload_n S.1 S.2.1 dX0_begins_0 rfl (lv_at hl 0 rfl) ?_
  refine lv_iload_n S.1 S.2.1 dX0_begins_1 rfl (lv_at hl 1 rfl) ?_
  refine xcalli [] S w fX_has (mX_has l P rel len tl lf tr dn ln kn ll bo hP j (by omega)) rfl ⟨Nat.le_of_ble_eq_true rfl, Nat.le_of_ble_eq_true rfl⟩ hl.1 (Nat.le_of_ble_eq_true rfl) rfl ⟨Nat.zero_le _, Nat.zero_le _⟩ dX0_begins_2 (fun z u H locs hp w => ?_)
  have w : xA D h g A s s.heap P rel len tl lf tr dn ln kn ll bo H locs := w
  rcases hp with ⟨rfl, k0, hk0, hk06, hkP⟩ | ⟨rfl, hno⟩
  · subst hk0
    refine zi_if_ne (tgt := 10) S dX0_begins_5 (by decide) (by omega) (fun c37 => ?_) (fun c37 => absurd c37 (by omega))
    refine lv_aload_n S.1 S.2.1 dX0_begins_10 rfl (lv_at hl 0 rfl) ?_
    refine xcallv [] S w fX_learn (mX_learn l P rel len tl lf tr dn ln kn ll bo hP hd hlen1 hkn) rfl ⟨Nat.le_of_ble_eq_true rfl, Nat.le_of_ble_eq_true rfl⟩ hl.1 (Nat.le_of_ble_eq_true rfl) rfl ⟨Nat.zero_le _, Nat.zero_le _⟩ dX0_begins_11 (fun u H locs hp w => ?_)
    obtain ⟨lfy, try_, dny, lny, kny, lly, boy⟩ := u
    have w : xA D h g A s s.heap P rel len tl lfy try_ dny lny kny lly boy H locs := w
    obtain ⟨hk1, hll, hok⟩ := hp
    have hk1 : kny = 1 := hk1
    have hll : 0 ≤ lly ∧ lly ≤ 100000 := hll
    have hok : knOK P rel len tl lly boy := hok
    have hkn2 : knst P rel len tl kny lly boy := Or.inr ⟨hk1, hll, hok⟩
    refine lv_aload_n S.1 S.2.1 dX0_begins_14 rfl (lv_at hl 0 rfl) ?_
    refine xcallv [] S w fX_begin (mX_begin l P rel len tl lfy try_ dny lny kny lly boy) rfl ⟨Nat.le_of_ble_eq_true rfl, Nat.le_of_ble_eq_true rfl⟩ hl.1 (Nat.le_of_ble_eq_true rfl) rfl ⟨Nat.zero_le _, Nat.zero_le _⟩ dX0_begins_15 (fun u H locs hp w => ?_)
    have w : xA D h g A s s.heap P rel len tl lfy try_ (updZ dny 0 0) (updZ lny 0 0) kny lly boy H locs := w
    refine zi_iconst S dX0_begins_18 ?_
    refine lv_istore_n (lv' := [(2, .int (iI 0)), (0, .ref (h 0)), (1, .int (iI (k0 : Int)))]) S.1 S.2.1 dX0_begins_19 rfl hl (by decide) rfl (fun ls hl => ?_)
    obtain ⟨hm, o, ho, hbo⟩ := hok
    have hord := (fst_ord o _ _ _ ho).1
    have hlo := isOrd_len o P hP hord
    have hmem : k0 ∈ o := (isOrd_mem o P hord k0).mpr hkP
    refine W_loop (fun n H locs ls => ∃ (i : Nat) (trx dnx lnx : Nat → Int), n = 6 - i ∧ i ≤ 6 ∧ bgInv rel len o k0 i (dnx i) ∧ (0 ≤ dnx i ∧ dnx i ≤ 212 * i) ∧ (0 ≤ lnx i ∧ lnx i ≤ 212 * i + 200) ∧ xA D h g A s s.heap P rel len tl lfy trx dnx lnx kny lly boy H locs ∧ lv_has ls 3 [(0, .ref (h 0)), (1, .int (iI (k0 : Int))), (2, .int (iI (i : Int)))]) 20 ?_ 6 _ _ _ ⟨0, try_, (updZ dny 0 0), (updZ lny 0 0), rfl, by omega, ⟨hmem, by rw [updZ_s]; rfl⟩, by rw [updZ_s]; omega, by rw [updZ_s]; omega, w, lv_sub hl [1, 2, 0] rfl⟩
    intro n H locs ls hI2 ih
    obtain ⟨i, trx, dnx, lnx, hn, hi6, hbg, hbd, hbl, w, hl⟩ := hI2
    obtain ⟨hio, hdr⟩ := bg_drop hbg.1
    obtain ⟨hx6, hxP⟩ := ord_getD hP hord hio
    have hboi := hbo i (by omega)
    have hdx := hd (o.getD i 0) hx6
    have hnx : 0 ≤ nx rel len (dnx i) (o.getD i 0) ∧ nx rel len (dnx i) (o.getD i 0) ≤ 212 * (i + 1) := by unfold nx; omega
    refine lv_iload_n S.1 S.2.1 dX0_begins_20 rfl (lv_at hl 2 rfl) ?_
    refine zi_bipush S dX0_begins_21 (by decide) ?_
    refine zi_icmp_ge (tgt := 69) S dX0_begins_23 (by decide) (by omega) (by omega) (fun c38 => absurd c38 (by omega)) (fun c38 => ?_)
    refine lv_aload_n S.1 S.2.1 dX0_begins_26 rfl (lv_at hl 0 rfl) ?_
    refine lv_iload_n S.1 S.2.1 dX0_begins_27 rfl (lv_at hl 2 rfl) ?_
    refine lv_aload_n S.1 S.2.1 dX0_begins_28 rfl (lv_at hl 0 rfl) ?_
    refine xg_bo S w dX0_begins_29 ?_
    refine lv_iload_n S.1 S.2.1 dX0_begins_32 rfl (lv_at hl 2 rfl) ?_
    refine xl_bo S w i (by first | rfl | omega) (by omega) dX0_begins_33 ?_
    refine W_is ((o.getD i 0 : Nat) : Int) hboi ?_
    refine xcallv [] S w fX_place (mX_place l P rel len tl lfy trx dnx lnx kny lly boy hd i (o.getD i 0) (by omega) hx6 (by omega) (by omega)) rfl ⟨Nat.le_of_ble_eq_true rfl, Nat.le_of_ble_eq_true rfl⟩ hl.1 (Nat.le_of_ble_eq_true rfl) rfl ⟨Nat.zero_le _, Nat.zero_le _⟩ dX0_begins_34 (fun u H locs hp w => ?_)
    have w : xA D h g A s s.heap P rel len tl lfy (updZ trx i ((o.getD i 0) : Int)) (updZ dnx (i + 1) (nx rel len (dnx i) (o.getD i 0))) (updZ lnx (i + 1) (max (lnx i) ((nx rel len (dnx i) (o.getD i 0)) + tl (o.getD i 0)))) kny lly boy H locs := w
    refine lv_aload_n S.1 S.2.1 dX0_begins_37 rfl (lv_at hl 0 rfl) ?_
    refine xg_bo S w dX0_begins_38 ?_
    refine lv_iload_n S.1 S.2.1 dX0_begins_41 rfl (lv_at hl 2 rfl) ?_
    refine xl_bo S w i (by first | rfl | omega) (by omega) dX0_begins_42 ?_
    refine W_is ((o.getD i 0 : Nat) : Int) hboi ?_
    refine lv_iload_n S.1 S.2.1 dX0_begins_43 rfl (lv_at hl 1 rfl) ?_
    refine zi_icmp_ne (tgt := 63) S dX0_begins_44 (by decide) (by omega) (by omega) (fun c39 => ?_) (fun c39 => ?_)
    · refine lv_iinc (v := iI ((i + 1 : Nat) : Int)) (lv' := [(2, .int (iI ((i + 1 : Nat) : Int))), (0, .ref (h 0)), (1, .int (iI (k0 : Int)))]) S.1 S.2.1 dX0_begins_63 hl (k := 2) rfl ((iI_add _ _).trans (congrArg iI (by omega))) (by decide) rfl (fun ls hl => ?_)
      refine lv_goto (tgt := 20) S.1 S.2.1 dX0_begins_66 (by decide) ?_
      exact ih _ _ _ _ (by omega) ⟨i + 1, (updZ trx i ((o.getD i 0) : Int)), (updZ dnx (i + 1) (nx rel len (dnx i) (o.getD i 0))), (updZ lnx (i + 1) (max (lnx i) ((nx rel len (dnx i) (o.getD i 0)) + tl (o.getD i 0)))), rfl, by omega, by rw [updZ_s]; exact bg_next hbg (fun q => c39 (by omega)), by rw [updZ_s]; omega, by rw [updZ_s]; omega, w, lv_sub hl [1, 2, 0] rfl⟩
    · have hek : o.getD i 0 = k0 := by omega
      have hb := bg_here hbg hek
      refine lv_aload_n S.1 S.2.1 dX0_begins_47 rfl (lv_at hl 0 rfl) ?_
      refine xg_dn S w dX0_begins_48 ?_
      refine lv_iload_n S.1 S.2.1 dX0_begins_51 rfl (lv_at hl 2 rfl) ?_
      refine zi_iconst S dX0_begins_52 ?_
      refine zi_iadd S dX0_begins_53 ?_
      refine xl_dn S w (i + 1) (by first | rfl | omega) (by omega) dX0_begins_54 ?_
      refine W_is (nx rel len (dnx i) (o.getD i 0)) (updZ_s _ _ _) ?_
      refine lv_aload_n S.1 S.2.1 dX0_begins_55 rfl (lv_at hl 0 rfl) ?_
      refine xg_len S w dX0_begins_56 ?_
      refine lv_iload_n S.1 S.2.1 dX0_begins_59 rfl (lv_at hl 1 rfl) ?_
      refine xl_len S w k0 (by first | rfl | omega) (by omega) dX0_begins_60 ?_
      refine zi_isub S dX0_begins_61 ?_
      exact xreti (lfy, (updZ trx i ((o.getD i 0) : Int)), (updZ dnx (i + 1) (nx rel len (dnx i) (o.getD i 0))), (updZ lnx (i + 1) (max (lnx i) ((nx rel len (dnx i) (o.getD i 0)) + tl (o.getD i 0)))), kny, lly, boy) S hr rfl hlk w ⟨hkn2, Or.inr ⟨k0, rfl, hk06, hkP, lly, hm, o, ho, by rw [hb, hek]; unfold nx; omega⟩⟩ dX0_begins_62
  · skip
    refine zi_if_ne (tgt := 10) S dX0_begins_5 (by decide) (by omega) (fun c40 => absurd c40 (by omega)) (fun c40 => ?_)
    refine zi_iconst S dX0_begins_8 ?_
    exact xreti (lf, tr, dn, ln, kn, ll, bo) S hr rfl hlk w ⟨hkn, Or.inl ⟨rfl, hno⟩⟩ dX0_begins_9
end
section
/-! HeadTail: answers of the search -/
set_option maxRecDepth 100000
set_option maxHeartbeats 4000000 in
/-- plainLeast() -/
theorem mX_plainLeast (l : Launch) (P : Nat) (rel len tl lf tr dn ln : Nat → Int) (kn ll : Int) (bo : Nat → Int) (hP : P < 64) (hd : dOK rel len tl) (hlen1 : ∀ j, j < 6 → P.testBit j = true → 1 ≤ len j) : CXi l yX0_plainLeast cX0_plainLeast 1 (some .int) 4 106 [] (P, rel, len, tl, lf, tr, dn, ln, kn, ll, bo) (fun z (_ : ((Nat → Int) × (Nat → Int) × (Nat → Int) × (Nat → Int))) => wMin rel len tl (-1) (-1) P 0 0 0 z ∧ 0 ≤ z ∧ z ≤ 100000) (fun u => (P, rel, len, tl, u.1, u.2.1, u.2.2.1, u.2.2.2, kn, ll, bo)) := by
  refine CXi.of (by decide) rfl (fun _ => Nat.le_of_ble_eq_true rfl) ?_
  intro p e s m below meth c D h g A S hr hlk w ls hl
  have hl : lv_has ls 1 [(0, .ref (h 0))] := hl
  have w : xA D h g A s s.heap P rel len tl lf tr dn ln kn ll bo s.heap [] := w
  refine lv_aload_n S.1 S.2.1 dX0_plainLeast_0 rfl (lv_at hl 0 rfl) ?_
  refine xcallv [] S w fX_begin (mX_begin l P rel len tl lf tr dn ln kn ll bo) rfl ⟨Nat.le_of_ble_eq_true rfl, Nat.le_of_ble_eq_true rfl⟩ hl.1 (Nat.le_of_ble_eq_true rfl) rfl ⟨Nat.zero_le _, Nat.zero_le _⟩ dX0_plainLeast_1 (fun u H locs hp w => ?_)
  have w : xA D h g A s s.heap P rel len tl lf tr (updZ dn 0 0) (updZ ln 0 0) kn ll bo H locs := w
  refine lv_aload_n S.1 S.2.1 dX0_plainLeast_4 rfl (lv_at hl 0 rfl) ?_
  refine zi_iconst S dX0_plainLeast_5 ?_
  refine zi_iconst S dX0_plainLeast_6 ?_
  refine zi_iconst S dX0_plainLeast_7 ?_
  refine xcalli [] S w fX_search (mX_search l P rel len tl lf tr (updZ dn 0 0) (updZ ln 0 0) kn ll bo hP hd hlen1 0 (-1) (-1) (by omega) (by omega) (fun i hi => absurd hi (by omega)) (fun i hi => by have q : (0 : Nat).testBit i = true := hi; simp at q) (by rw [show um tr 0 = 0 from rfl, sd_zero]; omega) (by rw [updZ_s]; omega) (by rw [updZ_s]; omega)) rfl ⟨Nat.le_of_ble_eq_true rfl, Nat.le_of_ble_eq_true rfl⟩ hl.1 (Nat.le_of_ble_eq_true rfl) rfl ⟨Nat.zero_le _, Nat.zero_le _⟩ dX0_plainLeast_8 (fun z u H locs hp w => ?_)
  obtain ⟨lfy, try_, dny, lny⟩ := u
  have w : xA D h g A s s.heap P rel len tl lfy try_ dny lny kn ll bo H locs := w
  obtain ⟨hm, hz, -, -⟩ := hp
  rw [updZ_s, updZ_s, show um tr 0 = 0 from rfl, sd_zero] at hm
  obtain ⟨zz, rfl⟩ : ∃ zz, zz = z := ⟨_, rfl⟩
  exact xreti (lfy, try_, dny, lny) S hr rfl hlk w ⟨hm, hz⟩ dX0_plainLeast_11
set_option maxHeartbeats 4000000 in
/-- leastWith(i, j) -/
theorem mX_leastWith (l : Launch) (P : Nat) (rel len tl lf tr dn ln : Nat → Int) (kn ll : Int) (bo : Nat → Int) (hP : P < 64) (hd : dOK rel len tl) (hlen1 : ∀ j, j < 6 → P.testBit j = true → 1 ≤ len j) (i j : Int) (hi : -2147483648 ≤ i ∧ i ≤ 2147483647) (hj : -2147483648 ≤ j ∧ j ≤ 2147483647) : CXi l yX0_leastWith cX0_leastWith 3 (some .int) 4 106 [.int (iI i), .int (iI j)] (P, rel, len, tl, lf, tr, dn, ln, kn, ll, bo) (fun z (_ : ((Nat → Int) × (Nat → Int) × (Nat → Int) × (Nat → Int))) => (z = -1 ∧ ¬ ∃ a b : Nat, i = (a : Int) ∧ j = (b : Int) ∧ a < 6 ∧ P.testBit a = true ∧ b < 6 ∧ P.testBit b = true ∧ a ≠ b) ∨ ∃ a b : Nat, i = (a : Int) ∧ j = (b : Int) ∧ a < 6 ∧ P.testBit a = true ∧ b < 6 ∧ P.testBit b = true ∧ a ≠ b ∧ wMin rel len tl a b P 0 0 0 z) (fun u => (P, rel, len, tl, u.1, u.2.1, u.2.2.1, u.2.2.2, kn, ll, bo)) := by
  refine CXi.of (by decide) rfl (fun _ => Nat.le_of_ble_eq_true rfl) ?_
  intro p e s m below meth c D h g A S hr hlk w ls hl
  have hl : lv_has ls 3 [(0, .ref (h 0)), (1, .int (iI i)), (2, .int (iI j))] := hl
  have w : xA D h g A s s.heap P rel len tl lf tr dn ln kn ll bo s.heap [] := w
  refine lv_aload_n S.1 S.2.1 dX0_leastWith_0 rfl (lv_at hl 0 rfl) ?_
  refine lv_iload_n S.1 S.2.1 dX0_leastWith_1 rfl (lv_at hl 1 rfl) ?_
  refine xcalli [] S w fX_has (mX_has l P rel len tl lf tr dn ln kn ll bo hP i (by omega)) rfl ⟨Nat.le_of_ble_eq_true rfl, Nat.le_of_ble_eq_true rfl⟩ hl.1 (Nat.le_of_ble_eq_true rfl) rfl ⟨Nat.zero_le _, Nat.zero_le _⟩ dX0_leastWith_2 (fun z u H locs hp w => ?_)
  have w : xA D h g A s s.heap P rel len tl lf tr dn ln kn ll bo H locs := w
  rcases hp with ⟨rfl, k1, hk1, hk16, hk1P⟩ | ⟨rfl, hno⟩
  · subst hk1
    refine zi_if_eq (tgt := 21) S dX0_leastWith_5 (by decide) (by omega) (fun c41 => absurd c41 (by omega)) (fun c41 => ?_)
    refine lv_aload_n S.1 S.2.1 dX0_leastWith_8 rfl (lv_at hl 0 rfl) ?_
    refine lv_iload_n S.1 S.2.1 dX0_leastWith_9 rfl (lv_at hl 2 rfl) ?_
    refine xcalli [] S w fX_has (mX_has l P rel len tl lf tr dn ln kn ll bo hP j (by omega)) rfl ⟨Nat.le_of_ble_eq_true rfl, Nat.le_of_ble_eq_true rfl⟩ hl.1 (Nat.le_of_ble_eq_true rfl) rfl ⟨Nat.zero_le _, Nat.zero_le _⟩ dX0_leastWith_10 (fun z u H locs hp w => ?_)
    have w : xA D h g A s s.heap P rel len tl lf tr dn ln kn ll bo H locs := w
    rcases hp with ⟨rfl, k2, hk2, hk26, hk2P⟩ | ⟨rfl, hno⟩
    · subst hk2
      refine zi_if_eq (tgt := 21) S dX0_leastWith_13 (by decide) (by omega) (fun c42 => absurd c42 (by omega)) (fun c42 => ?_)
      refine lv_iload_n S.1 S.2.1 dX0_leastWith_16 rfl (lv_at hl 1 rfl) ?_
      refine lv_iload_n S.1 S.2.1 dX0_leastWith_17 rfl (lv_at hl 2 rfl) ?_
      refine zi_icmp_ne (tgt := 23) S dX0_leastWith_18 (by decide) (by omega) (by omega) (fun c43 => ?_) (fun c43 => ?_)
      · refine lv_aload_n S.1 S.2.1 dX0_leastWith_23 rfl (lv_at hl 0 rfl) ?_
        refine xcallv [] S w fX_begin (mX_begin l P rel len tl lf tr dn ln kn ll bo) rfl ⟨Nat.le_of_ble_eq_true rfl, Nat.le_of_ble_eq_true rfl⟩ hl.1 (Nat.le_of_ble_eq_true rfl) rfl ⟨Nat.zero_le _, Nat.zero_le _⟩ dX0_leastWith_24 (fun u H locs hp w => ?_)
        have w : xA D h g A s s.heap P rel len tl lf tr (updZ dn 0 0) (updZ ln 0 0) kn ll bo H locs := w
        refine lv_aload_n S.1 S.2.1 dX0_leastWith_27 rfl (lv_at hl 0 rfl) ?_
        refine zi_iconst S dX0_leastWith_28 ?_
        refine lv_iload_n S.1 S.2.1 dX0_leastWith_29 rfl (lv_at hl 1 rfl) ?_
        refine lv_iload_n S.1 S.2.1 dX0_leastWith_30 rfl (lv_at hl 2 rfl) ?_
        refine xcalli [] S w fX_search (mX_search l P rel len tl lf tr (updZ dn 0 0) (updZ ln 0 0) kn ll bo hP hd hlen1 0 k1 k2 (by omega) (by omega) (fun i hi => absurd hi (by omega)) (fun i hi => by have q : (0 : Nat).testBit i = true := hi; simp at q) (by rw [show um tr 0 = 0 from rfl, sd_zero]; omega) (by rw [updZ_s]; omega) (by rw [updZ_s]; omega)) rfl ⟨Nat.le_of_ble_eq_true rfl, Nat.le_of_ble_eq_true rfl⟩ hl.1 (Nat.le_of_ble_eq_true rfl) rfl ⟨Nat.zero_le _, Nat.zero_le _⟩ dX0_leastWith_31 (fun z u H locs hp w => ?_)
        obtain ⟨lfy, try_, dny, lny⟩ := u
        have w : xA D h g A s s.heap P rel len tl lfy try_ dny lny kn ll bo H locs := w
        obtain ⟨hm, hz, -, -⟩ := hp
        rw [updZ_s, updZ_s, show um tr 0 = 0 from rfl, sd_zero] at hm
        obtain ⟨zz, rfl⟩ : ∃ zz, zz = z := ⟨_, rfl⟩
        exact xreti (lfy, try_, dny, lny) S hr rfl hlk w (Or.inr ⟨k1, k2, rfl, rfl, hk16, hk1P, hk26, hk2P, by omega, hm⟩) dX0_leastWith_34
      · refine zi_iconst S dX0_leastWith_21 ?_
        exact xreti (lf, tr, dn, ln) S hr rfl hlk w (Or.inl ⟨rfl, (fun q => by obtain ⟨a, b, e1, e2, e3, e4, e5, e6, e7⟩ := q; omega)⟩) dX0_leastWith_22
    · skip
      refine zi_if_eq (tgt := 21) S dX0_leastWith_13 (by decide) (by omega) (fun c44 => ?_) (fun c44 => absurd c44 (by omega))
      refine zi_iconst S dX0_leastWith_21 ?_
      exact xreti (lf, tr, dn, ln) S hr rfl hlk w (Or.inl ⟨rfl, (fun q => by obtain ⟨a, b, e1, e2, e3, e4, e5, e6, e7⟩ := q; have := hno b e2 e5; rw [this] at e6; cases e6)⟩) dX0_leastWith_22
  · skip
    refine zi_if_eq (tgt := 21) S dX0_leastWith_5 (by decide) (by omega) (fun c45 => ?_) (fun c45 => absurd c45 (by omega))
    refine zi_iconst S dX0_leastWith_21 ?_
    exact xreti (lf, tr, dn, ln) S hr rfl hlk w (Or.inl ⟨rfl, (fun q => by obtain ⟨a, b, e1, e2, e3, e4, e5, e6, e7⟩ := q; have := hno a e1 e3; rw [this] at e4; cases e4)⟩) dX0_leastWith_22
theorem one_step {P k : Nat} (hk : P.testBit k = true) : ∀ i, (2 ^ k).testBit i = true → P.testBit i = true := fun i hi => by
  rw [bit_one] at hi
  simp only [decide_eq_true_eq] at hi
  rw [← hi]; exact hk
set_option maxHeartbeats 4000000 in
/-- leastFirst(j) -/
theorem mX_leastFirst (l : Launch) (P : Nat) (rel len tl lf tr dn ln : Nat → Int) (kn ll : Int) (bo : Nat → Int) (hP : P < 64) (hd : dOK rel len tl) (hlen1 : ∀ j, j < 6 → P.testBit j = true → 1 ≤ len j) (j : Int) (hj : -2147483648 ≤ j ∧ j ≤ 2147483647) : CXi l yX0_leastFirst cX0_leastFirst 2 (some .int) 4 106 [.int (iI j)] (P, rel, len, tl, lf, tr, dn, ln, kn, ll, bo) (fun z (_ : ((Nat → Int) × (Nat → Int) × (Nat → Int) × (Nat → Int))) => (z = -1 ∧ ∀ k : Nat, j = (k : Int) → k < 6 → P.testBit k = false) ∨ ∃ k : Nat, j = (k : Int) ∧ k < 6 ∧ P.testBit k = true ∧ wMin rel len tl (-1) (-1) (sd P (2 ^ k)) (2 ^ k) (nx rel len 0 k) (max 0 (nx rel len 0 k + tl k)) z) (fun u => (P, rel, len, tl, u.1, u.2.1, u.2.2.1, u.2.2.2, kn, ll, bo)) := by
  refine CXi.of (by decide) rfl (fun _ => Nat.le_of_ble_eq_true rfl) ?_
  intro p e s m below meth c D h g A S hr hlk w ls hl
  have hl : lv_has ls 2 [(0, .ref (h 0)), (1, .int (iI j))] := hl
  have w : xA D h g A s s.heap P rel len tl lf tr dn ln kn ll bo s.heap [] := w
  have hc6 := cnt_le P
  refine lv_aload_n S.1 S.2.1 dX0_leastFirst_0 rfl (lv_at hl 0 rfl) ?_
  refine lv_iload_n S.1 S.2.1 dX0_leastFirst_1 rfl (lv_at hl 1 rfl) ?_
  refine xcalli [] S w fX_has (mX_has l P rel len tl lf tr dn ln kn ll bo hP j (by omega)) rfl ⟨Nat.le_of_ble_eq_true rfl, Nat.le_of_ble_eq_true rfl⟩ hl.1 (Nat.le_of_ble_eq_true rfl) rfl ⟨Nat.zero_le _, Nat.zero_le _⟩ dX0_leastFirst_2 (fun z u H locs hp w => ?_)
  have w : xA D h g A s s.heap P rel len tl lf tr dn ln kn ll bo H locs := w
  rcases hp with ⟨rfl, k0, hk0, hk06, hkP⟩ | ⟨rfl, hno⟩
  · subst hk0
    have hdk := hd k0 hk06
    refine zi_if_ne (tgt := 10) S dX0_leastFirst_5 (by decide) (by omega) (fun c46 => ?_) (fun c46 => absurd c46 (by omega))
    refine lv_aload_n S.1 S.2.1 dX0_leastFirst_10 rfl (lv_at hl 0 rfl) ?_
    refine xcallv [] S w fX_begin (mX_begin l P rel len tl lf tr dn ln kn ll bo) rfl ⟨Nat.le_of_ble_eq_true rfl, Nat.le_of_ble_eq_true rfl⟩ hl.1 (Nat.le_of_ble_eq_true rfl) rfl ⟨Nat.zero_le _, Nat.zero_le _⟩ dX0_leastFirst_11 (fun u H locs hp w => ?_)
    have w : xA D h g A s s.heap P rel len tl lf tr (updZ dn 0 0) (updZ ln 0 0) kn ll bo H locs := w
    refine lv_aload_n S.1 S.2.1 dX0_leastFirst_14 rfl (lv_at hl 0 rfl) ?_
    refine zi_iconst S dX0_leastFirst_15 ?_
    refine lv_iload_n S.1 S.2.1 dX0_leastFirst_16 rfl (lv_at hl 1 rfl) ?_
    refine xcallv [] S w fX_place (mX_place l P rel len tl lf tr (updZ dn 0 0) (updZ ln 0 0) kn ll bo hd 0 k0 (by omega) hk06 (by rw [updZ_s]; omega) (by rw [updZ_s]; omega)) rfl ⟨Nat.le_of_ble_eq_true rfl, Nat.le_of_ble_eq_true rfl⟩ hl.1 (Nat.le_of_ble_eq_true rfl) rfl ⟨Nat.zero_le _, Nat.zero_le _⟩ dX0_leastFirst_17 (fun u H locs hp w => ?_)
    have w : xA D h g A s s.heap P rel len tl lf (updZ tr 0 (k0 : Int)) (updZ (updZ dn 0 0) (0 + 1) (nx rel len ((updZ dn 0 0) 0) k0)) (updZ (updZ ln 0 0) (0 + 1) (max ((updZ ln 0 0) 0) ((nx rel len ((updZ dn 0 0) 0) k0) + tl k0))) kn ll bo H locs := w
    refine lv_aload_n S.1 S.2.1 dX0_leastFirst_20 rfl (lv_at hl 0 rfl) ?_
    refine zi_iconst S dX0_leastFirst_21 ?_
    refine zi_iconst S dX0_leastFirst_22 ?_
    refine zi_iconst S dX0_leastFirst_23 ?_
    have eU : um (updZ tr 0 (k0 : Int)) 1 = 2 ^ k0 := by show 0 ||| 2 ^ ((updZ tr 0 (k0 : Int)) 0).toNat = 2 ^ k0; rw [updZ_s, Int.toNat_natCast, Nat.zero_or]
    have eT : (updZ (updZ dn 0 0) (0 + 1) (nx rel len ((updZ dn 0 0) 0) k0)) 1 = nx rel len 0 k0 := by rw [show (1 : Nat) = 0 + 1 from rfl, updZ_s, updZ_s]
    have eL : (updZ (updZ ln 0 0) (0 + 1) (max ((updZ ln 0 0) 0) ((nx rel len ((updZ dn 0 0) 0) k0) + tl k0))) 1 = max 0 (nx rel len 0 k0 + tl k0) := by rw [show (1 : Nat) = 0 + 1 from rfl, updZ_s, updZ_s, updZ_s]
    have hnx : 0 ≤ nx rel len 0 k0 ∧ nx rel len 0 k0 ≤ 212 := by unfold nx; omega
    have hcn := cnt_one hk06 hkP
    refine xcalli [] S w fX_search (mX_search l P rel len tl lf (updZ tr 0 (k0 : Int)) (updZ (updZ dn 0 0) (0 + 1) (nx rel len ((updZ dn 0 0) 0) k0)) (updZ (updZ ln 0 0) (0 + 1) (max ((updZ ln 0 0) 0) ((nx rel len ((updZ dn 0 0) 0) k0) + tl k0))) kn ll bo hP hd hlen1 1 (-1) (-1) (by omega) (by omega) (tr_step (tr := tr) (fun i hi => absurd hi (by omega)) (fun i hi => absurd hi (by omega)) hk06) (by rw [eU]; exact one_step hkP) (by rw [eU]; omega) (by rw [eT]; omega) (by rw [eL]; omega)) rfl ⟨Nat.le_of_ble_eq_true rfl, Nat.le_of_ble_eq_true rfl⟩ hl.1 (Nat.le_of_ble_eq_true rfl) rfl ⟨Nat.zero_le _, Nat.zero_le _⟩ dX0_leastFirst_24 (fun z u H locs hp w => ?_)
    obtain ⟨lfy, try_, dny, lny⟩ := u
    have w : xA D h g A s s.heap P rel len tl lfy try_ dny lny kn ll bo H locs := w
    obtain ⟨hm, hz, -, -⟩ := hp
    rw [eU, eT, eL] at hm
    obtain ⟨zz, rfl⟩ : ∃ zz, zz = z := ⟨_, rfl⟩
    exact xreti (lfy, try_, dny, lny) S hr rfl hlk w (Or.inr ⟨k0, rfl, hk06, hkP, hm⟩) dX0_leastFirst_27
  · skip
    refine zi_if_ne (tgt := 10) S dX0_leastFirst_5 (by decide) (by omega) (fun c47 => absurd c47 (by omega)) (fun c47 => ?_)
    refine zi_iconst S dX0_leastFirst_8 ?_
    exact xreti (lf, tr, dn, ln) S hr rfl hlk w (Or.inl ⟨rfl, hno⟩) dX0_leastFirst_9
set_option maxHeartbeats 4000000 in
/-- interrupted() -/
theorem mX_interrupted (l : Launch) (P : Nat) (rel len tl lf tr dn ln : Nat → Int) (kn ll : Int) (bo : Nat → Int) (hP : P < 64) (hd : dOK rel len tl) (hlen1 : ∀ j, j < 6 → P.testBit j = true → 1 ≤ len j) : CXi l yX0_interrupted cX0_interrupted 1 (some .int) 2 52 [] (P, rel, len, tl, lf, tr, dn, ln, kn, ll, bo) (fun z (_ : Nat → Int) => jpsIs rel len tl P 0 z) (fun lf2 => (P, rel, len, tl, lf2, tr, dn, ln, kn, ll, bo)) := by
  refine CXi.of (by decide) rfl (fun _ => Nat.le_of_ble_eq_true rfl) ?_
  intro p e s m below meth c D h g A S hr hlk w ls hl
  have hl : lv_has ls 1 [(0, .ref (h 0))] := hl
  have w : xA D h g A s s.heap P rel len tl lf tr dn ln kn ll bo s.heap [] := w
  refine lv_aload_n S.1 S.2.1 dX0_interrupted_0 rfl (lv_at hl 0 rfl) ?_
  refine lv_aload_n S.1 S.2.1 dX0_interrupted_1 rfl (lv_at hl 0 rfl) ?_
  refine xg_P S w dX0_interrupted_2 ?_
  refine zi_iconst S dX0_interrupted_5 ?_
  refine xcalli [] S w fX_interruptedLength (mX_interruptedLength l P rel len tl lf tr dn ln kn ll bo hd P hP hlen1 0 (by omega)) rfl ⟨Nat.le_of_ble_eq_true rfl, Nat.le_of_ble_eq_true rfl⟩ hl.1 (Nat.le_of_ble_eq_true rfl) rfl ⟨Nat.zero_le _, Nat.zero_le _⟩ dX0_interrupted_6 (fun z u H locs hp w => ?_)
  obtain ⟨hj1, hj2⟩ := hp
  obtain ⟨zz, rfl⟩ : ∃ zz, zz = z := ⟨_, rfl⟩
  have w : xA D h g A s s.heap P rel len tl u tr dn ln kn ll bo H locs := w
  exact xreti u S hr rfl hlk w hj1 dX0_interrupted_9
set_option maxHeartbeats 4000000 in
/-- tailFor(j, n) -/
theorem mX_tailFor (l : Launch) (P : Nat) (rel len tl lf tr dn ln : Nat → Int) (kn ll : Int) (bo : Nat → Int) (hP : P < 64) (hd : dOK rel len tl) (hlen1 : ∀ j, j < 6 → P.testBit j = true → 1 ≤ len j) (j n : Int) (hj : -2147483648 ≤ j ∧ j ≤ 2147483647) (hn0 : -2147483648 ≤ n ∧ n ≤ 2147483647) : CXi l yX0_tailFor cX0_tailFor 8 (some .int) 5 126 [.int (iI j), .int (iI n)] (P, rel, len, tl, lf, tr, dn, ln, kn, ll, bo) (fun z (_ : ((Nat → Int) × (Nat → Int) × (Nat → Int) × (Nat → Int))) => (z = -1 ∧ ∀ k : Nat, j = (k : Int) → k < 6 → P.testBit k = false) ∨ ∃ k : Nat, j = (k : Int) ∧ k < 6 ∧ P.testBit k = true ∧ gIs (fun v => fits_ rel len (updZ tl k v) P n) z) (fun u => (P, rel, len, tl, u.1, u.2.1, u.2.2.1, u.2.2.2, kn, ll, bo)) := by
  refine CXi.of (by decide) rfl (fun _ => Nat.le_of_ble_eq_true rfl) ?_
  intro p e s m below meth c D h g A S hr hlk w ls hl
  have hl : lv_has ls 8 [(0, .ref (h 0)), (1, .int (iI j)), (2, .int (iI n))] := hl
  have w : xA D h g A s s.heap P rel len tl lf tr dn ln kn ll bo s.heap [] := w
  refine lv_aload_n S.1 S.2.1 dX0_tailFor_0 rfl (lv_at hl 0 rfl) ?_
  refine lv_iload_n S.1 S.2.1 dX0_tailFor_1 rfl (lv_at hl 1 rfl) ?_
  refine xcalli [] S w fX_has (mX_has l P rel len tl lf tr dn ln kn ll bo hP j (by omega)) rfl ⟨Nat.le_of_ble_eq_true rfl, Nat.le_of_ble_eq_true rfl⟩ hl.1 (Nat.le_of_ble_eq_true rfl) rfl ⟨Nat.zero_le _, Nat.zero_le _⟩ dX0_tailFor_2 (fun z u H locs hp w => ?_)
  have w : xA D h g A s s.heap P rel len tl lf tr dn ln kn ll bo H locs := w
  rcases hp with ⟨rfl, k0, hk0, hk06, hkP⟩ | ⟨rfl, hno⟩
  · subst hk0
    have hdk := hd k0 hk06
    refine zi_if_ne (tgt := 10) S dX0_tailFor_5 (by decide) (by omega) (fun c48 => ?_) (fun c48 => absurd c48 (by omega))
    refine lv_aload_n S.1 S.2.1 dX0_tailFor_10 rfl (lv_at hl 0 rfl) ?_
    refine xg_tl S w dX0_tailFor_11 ?_
    refine lv_iload_n S.1 S.2.1 dX0_tailFor_14 rfl (lv_at hl 1 rfl) ?_
    refine xl_tl S w k0 (by first | rfl | omega) (by omega) dX0_tailFor_15 ?_
    refine lv_istore_n (lv' := [(3, .int (iI (tl k0))), (0, .ref (h 0)), (1, .int (iI (k0 : Int))), (2, .int (iI n))]) S.1 S.2.1 dX0_tailFor_16 rfl hl (by decide) rfl (fun ls hl => ?_)
    refine zi_iconst S dX0_tailFor_17 ?_
    refine lv_istore (lv' := [(4, .int (iI (-1))), (3, .int (iI (tl k0))), (0, .ref (h 0)), (1, .int (iI (k0 : Int))), (2, .int (iI n))]) S.1 S.2.1 dX0_tailFor_18 hl (by decide) rfl (fun ls hl => ?_)
    refine zi_sipush S dX0_tailFor_20 (by decide) ?_
    refine lv_istore (lv' := [(5, .int (iI 200)), (4, .int (iI (-1))), (3, .int (iI (tl k0))), (0, .ref (h 0)), (1, .int (iI (k0 : Int))), (2, .int (iI n))]) S.1 S.2.1 dX0_tailFor_23 hl (by decide) rfl (fun ls hl => ?_)
    refine zi_iconst S dX0_tailFor_25 ?_
    refine lv_istore (lv' := [(6, .int (iI 0)), (5, .int (iI 200)), (4, .int (iI (-1))), (3, .int (iI (tl k0))), (0, .ref (h 0)), (1, .int (iI (k0 : Int))), (2, .int (iI n))]) S.1 S.2.1 dX0_tailFor_26 hl (by decide) rfl (fun ls hl => ?_)
    refine W_loop (fun nn H locs ls => ∃ (rd : Nat) (lo hi : Int) (ax lfx trx dnx lnx : Nat → Int), nn = 9 - rd ∧ rd ≤ 9 ∧ (-1 ≤ lo ∧ lo ≤ hi ∧ hi ≤ 200) ∧ (lo = -1 ∨ (0 ≤ lo ∧ (fun v => fits_ rel len (updZ tl k0 v) P n) lo)) ∧ (∀ v : Int, hi < v → v ≤ 200 → ¬ (fun v => fits_ rel len (updZ tl k0 v) P n) v) ∧ hi - lo ≤ ((201 / 2 ^ rd : Nat) : Int) ∧ (∀ i, i ≠ k0 → ax i = tl i) ∧ xA D h g A s s.heap P rel len ax lfx trx dnx lnx kn ll bo H locs ∧ lv_has ls 8 [(0, .ref (h 0)), (1, .int (iI (k0 : Int))), (2, .int (iI n)), (3, .int (iI (tl k0))), (4, .int (iI lo)), (5, .int (iI hi)), (6, .int (iI (rd : Int)))]) 28 ?_ 9 _ _ _ ⟨0, -1, 200, tl, lf, tr, dn, ln, rfl, by omega, by omega, Or.inl rfl, fun v h1 h2 => absurd h1 (by omega), by decide, fun i _ => rfl, w, lv_sub hl [4, 5, 6, 3, 2, 1, 0] rfl⟩
    intro nn H locs ls hI2 ih
    obtain ⟨rd, lo, hi, ax, lfx, trx, dnx, lnx, hn, hrd, hlh, hlo, hhi, hwd, hax, w, hl⟩ := hI2
    refine lv_iload S.1 S.2.1 dX0_tailFor_28 (lv_at hl 6 rfl) ?_
    refine zi_bipush S dX0_tailFor_30 (by decide) ?_
    refine zi_icmp_ge (tgt := 89) S dX0_tailFor_32 (by decide) (by omega) (by omega) (fun c49 => ?_) (fun c49 => ?_)
    · have heq : lo = hi := by
        by_cases q : rd = 9
        · subst q
          have e9 : 201 / 2 ^ 9 = 0 := by decide
          rw [e9] at hwd
          omega
        · omega
      refine lv_aload_n S.1 S.2.1 dX0_tailFor_89 rfl (lv_at hl 0 rfl) ?_
      refine xg_tl S w dX0_tailFor_90 ?_
      refine lv_iload_n S.1 S.2.1 dX0_tailFor_93 rfl (lv_at hl 1 rfl) ?_
      refine lv_iload_n S.1 S.2.1 dX0_tailFor_94 rfl (lv_at hl 3 rfl) ?_
      refine xs_tl S w k0 (by first | rfl | omega) (by omega) (by omega) dX0_tailFor_95 (fun H locs w => ?_)
      rw [updZ_back hax] at w
      refine lv_iload S.1 S.2.1 dX0_tailFor_96 (lv_at hl 4 rfl) ?_
      refine zi_if_ge (tgt := 105) S dX0_tailFor_98 (by decide) (by omega) (fun c50 => ?_) (fun c50 => ?_)
      · refine lv_iload S.1 S.2.1 dX0_tailFor_105 (lv_at hl 4 rfl) ?_
        exact xreti (lfx, trx, dnx, lnx) S hr rfl hlk w (Or.inr ⟨k0, rfl, hk06, hkP, Or.inr ⟨by omega, by omega, (Or.resolve_left hlo (by omega)).2, fun v h1 h2 => hhi v (by omega) h2⟩⟩) dX0_tailFor_107
      · refine zi_iconst S dX0_tailFor_101 ?_
        refine lv_goto (tgt := 107) S.1 S.2.1 dX0_tailFor_102 (by decide) ?_
        exact xreti (lfx, trx, dnx, lnx) S hr rfl hlk w (Or.inr ⟨k0, rfl, hk06, hkP, Or.inl ⟨rfl, fun v h1 h2 => hhi v (by omega) h2⟩⟩) dX0_tailFor_107
    · refine lv_iload S.1 S.2.1 dX0_tailFor_35 (lv_at hl 4 rfl) ?_
      refine lv_iload S.1 S.2.1 dX0_tailFor_37 (lv_at hl 5 rfl) ?_
      refine zi_icmp_ge (tgt := 89) S dX0_tailFor_39 (by decide) (by omega) (by omega) (fun c51 => ?_) (fun c51 => ?_)
      · have heq : lo = hi := by
          by_cases q : rd = 9
          · subst q
            have e9 : 201 / 2 ^ 9 = 0 := by decide
            rw [e9] at hwd
            omega
          · omega
        refine lv_aload_n S.1 S.2.1 dX0_tailFor_89 rfl (lv_at hl 0 rfl) ?_
        refine xg_tl S w dX0_tailFor_90 ?_
        refine lv_iload_n S.1 S.2.1 dX0_tailFor_93 rfl (lv_at hl 1 rfl) ?_
        refine lv_iload_n S.1 S.2.1 dX0_tailFor_94 rfl (lv_at hl 3 rfl) ?_
        refine xs_tl S w k0 (by first | rfl | omega) (by omega) (by omega) dX0_tailFor_95 (fun H locs w => ?_)
        rw [updZ_back hax] at w
        refine lv_iload S.1 S.2.1 dX0_tailFor_96 (lv_at hl 4 rfl) ?_
        refine zi_if_ge (tgt := 105) S dX0_tailFor_98 (by decide) (by omega) (fun c52 => ?_) (fun c52 => ?_)
        · refine lv_iload S.1 S.2.1 dX0_tailFor_105 (lv_at hl 4 rfl) ?_
          exact xreti (lfx, trx, dnx, lnx) S hr rfl hlk w (Or.inr ⟨k0, rfl, hk06, hkP, Or.inr ⟨by omega, by omega, (Or.resolve_left hlo (by omega)).2, fun v h1 h2 => hhi v (by omega) h2⟩⟩) dX0_tailFor_107
        · refine zi_iconst S dX0_tailFor_101 ?_
          refine lv_goto (tgt := 107) S.1 S.2.1 dX0_tailFor_102 (by decide) ?_
          exact xreti (lfx, trx, dnx, lnx) S hr rfl hlk w (Or.inr ⟨k0, rfl, hk06, hkP, Or.inl ⟨rfl, fun v h1 h2 => hhi v (by omega) h2⟩⟩) dX0_tailFor_107
      · refine lv_iload S.1 S.2.1 dX0_tailFor_42 (lv_at hl 4 rfl) ?_
        refine lv_iload S.1 S.2.1 dX0_tailFor_44 (lv_at hl 5 rfl) ?_
        refine zi_iadd S dX0_tailFor_46 ?_
        refine zi_iconst S dX0_tailFor_47 ?_
        refine zi_iadd S dX0_tailFor_48 ?_
        refine zi_iconst S dX0_tailFor_49 ?_
        refine zi_half S (by omega) dX0_tailFor_50 ?_
        obtain ⟨md, emd⟩ : ∃ md : Int, md = (lo + hi + 1) / 2 := ⟨_, rfl⟩
        refine W_is md emd.symm ?_
        refine lv_istore (lv' := [(7, .int (iI md)), (0, .ref (h 0)), (1, .int (iI (k0 : Int))), (2, .int (iI n)), (3, .int (iI (tl k0))), (4, .int (iI lo)), (5, .int (iI hi)), (6, .int (iI (rd : Int)))]) S.1 S.2.1 dX0_tailFor_51 hl (by decide) rfl (fun ls hl => ?_)
        refine lv_aload_n S.1 S.2.1 dX0_tailFor_53 rfl (lv_at hl 1 rfl) ?_
        refine xg_tl S w dX0_tailFor_54 ?_
        refine lv_iload_n S.1 S.2.1 dX0_tailFor_57 rfl (lv_at hl 2 rfl) ?_
        refine lv_iload S.1 S.2.1 dX0_tailFor_58 (lv_at hl 0 rfl) ?_
        refine zi_i2s S (by omega) dX0_tailFor_60 ?_
        refine xs_tl S w k0 (by first | rfl | omega) (by omega) (by omega) dX0_tailFor_61 (fun H locs w => ?_)
        rw [updZ_on md hax] at w
        refine lv_aload_n S.1 S.2.1 dX0_tailFor_62 rfl (lv_at hl 1 rfl) ?_
        refine xcalli [] S w fX_plainLeast (mX_plainLeast l P rel len (updZ tl k0 md) lfx trx dnx lnx kn ll bo hP (dOK_tl hd k0 (by omega)) hlen1) rfl ⟨Nat.le_of_ble_eq_true rfl, Nat.le_of_ble_eq_true rfl⟩ hl.1 (Nat.le_of_ble_eq_true rfl) rfl ⟨Nat.zero_le _, Nat.zero_le _⟩ dX0_tailFor_63 (fun z u H locs hp w => ?_)
        obtain ⟨lfy, try_, dny, lny⟩ := u
        have w : xA D h g A s s.heap P rel len (updZ tl k0 md) lfy try_ dny lny kn ll bo H locs := w
        obtain ⟨hm, hz⟩ := hp
        have hiff := fits_iff (n := n) (dOK_tl hd k0 (v := md) (by omega)) hP hm
        obtain ⟨zz, rfl⟩ : ∃ zz, zz = z := ⟨_, rfl⟩
        refine lv_iload_n S.1 S.2.1 dX0_tailFor_66 rfl (lv_at hl 3 rfl) ?_
        refine zi_icmp_gt (tgt := 77) S dX0_tailFor_67 (by decide) (by omega) (by omega) (fun c53 => ?_) (fun c53 => ?_)
        · refine lv_iload S.1 S.2.1 dX0_tailFor_77 (lv_at hl 0 rfl) ?_
          refine zi_iconst S dX0_tailFor_79 ?_
          refine zi_isub S dX0_tailFor_80 ?_
          refine lv_istore (lv' := [(5, .int (iI (md - 1))), (7, .int (iI md)), (0, .ref (h 0)), (1, .int (iI (k0 : Int))), (2, .int (iI n)), (3, .int (iI (tl k0))), (4, .int (iI lo)), (6, .int (iI (rd : Int)))]) S.1 S.2.1 dX0_tailFor_81 hl (by decide) rfl (fun ls hl => ?_)
          refine lv_iinc (v := iI ((rd + 1 : Nat) : Int)) (lv' := [(6, .int (iI ((rd + 1 : Nat) : Int))), (5, .int (iI (md - 1))), (7, .int (iI md)), (0, .ref (h 0)), (1, .int (iI (k0 : Int))), (2, .int (iI n)), (3, .int (iI (tl k0))), (4, .int (iI lo))]) S.1 S.2.1 dX0_tailFor_83 hl (k := 7) rfl ((iI_add _ _).trans (congrArg iI (by omega))) (by decide) rfl (fun ls hl => ?_)
          refine lv_goto (tgt := 28) S.1 S.2.1 dX0_tailFor_86 (by decide) ?_
          have hhw := half_w rd
          exact ih _ _ _ _ (by omega) ⟨rd + 1, lo, (md - 1), (updZ tl k0 md), lfy, try_, dny, lny, rfl, by omega, by omega, hlo, (fun v h1 h2 q => absurd (hiff.mpr (fits_tl (v := v) (by omega) q)) (by omega)), by rw [hhw]; omega, fun i hi => updZ_n hi, w, lv_sub hl [3, 4, 5, 6, 7, 1, 0] rfl⟩
        · refine lv_iload S.1 S.2.1 dX0_tailFor_70 (lv_at hl 0 rfl) ?_
          refine lv_istore (lv' := [(4, .int (iI md)), (7, .int (iI md)), (0, .ref (h 0)), (1, .int (iI (k0 : Int))), (2, .int (iI n)), (3, .int (iI (tl k0))), (5, .int (iI hi)), (6, .int (iI (rd : Int)))]) S.1 S.2.1 dX0_tailFor_72 hl (by decide) rfl (fun ls hl => ?_)
          refine lv_goto (tgt := 83) S.1 S.2.1 dX0_tailFor_74 (by decide) ?_
          refine lv_iinc (v := iI ((rd + 1 : Nat) : Int)) (lv' := [(6, .int (iI ((rd + 1 : Nat) : Int))), (4, .int (iI md)), (7, .int (iI md)), (0, .ref (h 0)), (1, .int (iI (k0 : Int))), (2, .int (iI n)), (3, .int (iI (tl k0))), (5, .int (iI hi))]) S.1 S.2.1 dX0_tailFor_83 hl (k := 7) rfl ((iI_add _ _).trans (congrArg iI (by omega))) (by decide) rfl (fun ls hl => ?_)
          refine lv_goto (tgt := 28) S.1 S.2.1 dX0_tailFor_86 (by decide) ?_
          have hhw := half_w rd
          exact ih _ _ _ _ (by omega) ⟨rd + 1, md, hi, (updZ tl k0 md), lfy, try_, dny, lny, rfl, by omega, by omega, (Or.inr ⟨by omega, hiff.mp (by omega)⟩), hhi, by rw [hhw]; omega, fun i hi => updZ_n hi, w, lv_sub hl [3, 4, 5, 6, 1, 7, 0] rfl⟩
  · skip
    refine zi_if_ne (tgt := 10) S dX0_tailFor_5 (by decide) (by omega) (fun c54 => absurd c54 (by omega)) (fun c54 => ?_)
    refine zi_iconst S dX0_tailFor_8 ?_
    exact xreti (lf, tr, dn, ln) S hr rfl hlk w (Or.inl ⟨rfl, hno⟩) dX0_tailFor_9
set_option maxHeartbeats 4000000 in
/-- releaseFor(j, n) -/
theorem mX_releaseFor (l : Launch) (P : Nat) (rel len tl lf tr dn ln : Nat → Int) (kn ll : Int) (bo : Nat → Int) (hP : P < 64) (hd : dOK rel len tl) (hlen1 : ∀ j, j < 6 → P.testBit j = true → 1 ≤ len j) (j n : Int) (hj : -2147483648 ≤ j ∧ j ≤ 2147483647) (hn0 : -2147483648 ≤ n ∧ n ≤ 2147483647) : CXi l yX0_releaseFor cX0_releaseFor 8 (some .int) 5 126 [.int (iI j), .int (iI n)] (P, rel, len, tl, lf, tr, dn, ln, kn, ll, bo) (fun z (_ : ((Nat → Int) × (Nat → Int) × (Nat → Int) × (Nat → Int))) => (z = -1 ∧ ∀ k : Nat, j = (k : Int) → k < 6 → P.testBit k = false) ∨ ∃ k : Nat, j = (k : Int) ∧ k < 6 ∧ P.testBit k = true ∧ gIs (fun v => fits_ (updZ rel k v) len tl P n) z) (fun u => (P, rel, len, tl, u.1, u.2.1, u.2.2.1, u.2.2.2, kn, ll, bo)) := by
  refine CXi.of (by decide) rfl (fun _ => Nat.le_of_ble_eq_true rfl) ?_
  intro p e s m below meth c D h g A S hr hlk w ls hl
  have hl : lv_has ls 8 [(0, .ref (h 0)), (1, .int (iI j)), (2, .int (iI n))] := hl
  have w : xA D h g A s s.heap P rel len tl lf tr dn ln kn ll bo s.heap [] := w
  refine lv_aload_n S.1 S.2.1 dX0_releaseFor_0 rfl (lv_at hl 0 rfl) ?_
  refine lv_iload_n S.1 S.2.1 dX0_releaseFor_1 rfl (lv_at hl 1 rfl) ?_
  refine xcalli [] S w fX_has (mX_has l P rel len tl lf tr dn ln kn ll bo hP j (by omega)) rfl ⟨Nat.le_of_ble_eq_true rfl, Nat.le_of_ble_eq_true rfl⟩ hl.1 (Nat.le_of_ble_eq_true rfl) rfl ⟨Nat.zero_le _, Nat.zero_le _⟩ dX0_releaseFor_2 (fun z u H locs hp w => ?_)
  have w : xA D h g A s s.heap P rel len tl lf tr dn ln kn ll bo H locs := w
  rcases hp with ⟨rfl, k0, hk0, hk06, hkP⟩ | ⟨rfl, hno⟩
  · subst hk0
    have hdk := hd k0 hk06
    refine zi_if_ne (tgt := 10) S dX0_releaseFor_5 (by decide) (by omega) (fun c55 => ?_) (fun c55 => absurd c55 (by omega))
    refine lv_aload_n S.1 S.2.1 dX0_releaseFor_10 rfl (lv_at hl 0 rfl) ?_
    refine xg_rel S w dX0_releaseFor_11 ?_
    refine lv_iload_n S.1 S.2.1 dX0_releaseFor_14 rfl (lv_at hl 1 rfl) ?_
    refine xl_rel S w k0 (by first | rfl | omega) (by omega) dX0_releaseFor_15 ?_
    refine lv_istore_n (lv' := [(3, .int (iI (rel k0))), (0, .ref (h 0)), (1, .int (iI (k0 : Int))), (2, .int (iI n))]) S.1 S.2.1 dX0_releaseFor_16 rfl hl (by decide) rfl (fun ls hl => ?_)
    refine zi_iconst S dX0_releaseFor_17 ?_
    refine lv_istore (lv' := [(4, .int (iI (-1))), (3, .int (iI (rel k0))), (0, .ref (h 0)), (1, .int (iI (k0 : Int))), (2, .int (iI n))]) S.1 S.2.1 dX0_releaseFor_18 hl (by decide) rfl (fun ls hl => ?_)
    refine zi_sipush S dX0_releaseFor_20 (by decide) ?_
    refine lv_istore (lv' := [(5, .int (iI 200)), (4, .int (iI (-1))), (3, .int (iI (rel k0))), (0, .ref (h 0)), (1, .int (iI (k0 : Int))), (2, .int (iI n))]) S.1 S.2.1 dX0_releaseFor_23 hl (by decide) rfl (fun ls hl => ?_)
    refine zi_iconst S dX0_releaseFor_25 ?_
    refine lv_istore (lv' := [(6, .int (iI 0)), (5, .int (iI 200)), (4, .int (iI (-1))), (3, .int (iI (rel k0))), (0, .ref (h 0)), (1, .int (iI (k0 : Int))), (2, .int (iI n))]) S.1 S.2.1 dX0_releaseFor_26 hl (by decide) rfl (fun ls hl => ?_)
    refine W_loop (fun nn H locs ls => ∃ (rd : Nat) (lo hi : Int) (ax lfx trx dnx lnx : Nat → Int), nn = 9 - rd ∧ rd ≤ 9 ∧ (-1 ≤ lo ∧ lo ≤ hi ∧ hi ≤ 200) ∧ (lo = -1 ∨ (0 ≤ lo ∧ (fun v => fits_ (updZ rel k0 v) len tl P n) lo)) ∧ (∀ v : Int, hi < v → v ≤ 200 → ¬ (fun v => fits_ (updZ rel k0 v) len tl P n) v) ∧ hi - lo ≤ ((201 / 2 ^ rd : Nat) : Int) ∧ (∀ i, i ≠ k0 → ax i = rel i) ∧ xA D h g A s s.heap P ax len tl lfx trx dnx lnx kn ll bo H locs ∧ lv_has ls 8 [(0, .ref (h 0)), (1, .int (iI (k0 : Int))), (2, .int (iI n)), (3, .int (iI (rel k0))), (4, .int (iI lo)), (5, .int (iI hi)), (6, .int (iI (rd : Int)))]) 28 ?_ 9 _ _ _ ⟨0, -1, 200, rel, lf, tr, dn, ln, rfl, by omega, by omega, Or.inl rfl, fun v h1 h2 => absurd h1 (by omega), by decide, fun i _ => rfl, w, lv_sub hl [4, 5, 6, 3, 2, 1, 0] rfl⟩
    intro nn H locs ls hI2 ih
    obtain ⟨rd, lo, hi, ax, lfx, trx, dnx, lnx, hn, hrd, hlh, hlo, hhi, hwd, hax, w, hl⟩ := hI2
    refine lv_iload S.1 S.2.1 dX0_releaseFor_28 (lv_at hl 6 rfl) ?_
    refine zi_bipush S dX0_releaseFor_30 (by decide) ?_
    refine zi_icmp_ge (tgt := 89) S dX0_releaseFor_32 (by decide) (by omega) (by omega) (fun c56 => ?_) (fun c56 => ?_)
    · have heq : lo = hi := by
        by_cases q : rd = 9
        · subst q
          have e9 : 201 / 2 ^ 9 = 0 := by decide
          rw [e9] at hwd
          omega
        · omega
      refine lv_aload_n S.1 S.2.1 dX0_releaseFor_89 rfl (lv_at hl 0 rfl) ?_
      refine xg_rel S w dX0_releaseFor_90 ?_
      refine lv_iload_n S.1 S.2.1 dX0_releaseFor_93 rfl (lv_at hl 1 rfl) ?_
      refine lv_iload_n S.1 S.2.1 dX0_releaseFor_94 rfl (lv_at hl 3 rfl) ?_
      refine xs_rel S w k0 (by first | rfl | omega) (by omega) (by omega) dX0_releaseFor_95 (fun H locs w => ?_)
      rw [updZ_back hax] at w
      refine lv_iload S.1 S.2.1 dX0_releaseFor_96 (lv_at hl 4 rfl) ?_
      refine zi_if_ge (tgt := 105) S dX0_releaseFor_98 (by decide) (by omega) (fun c57 => ?_) (fun c57 => ?_)
      · refine lv_iload S.1 S.2.1 dX0_releaseFor_105 (lv_at hl 4 rfl) ?_
        exact xreti (lfx, trx, dnx, lnx) S hr rfl hlk w (Or.inr ⟨k0, rfl, hk06, hkP, Or.inr ⟨by omega, by omega, (Or.resolve_left hlo (by omega)).2, fun v h1 h2 => hhi v (by omega) h2⟩⟩) dX0_releaseFor_107
      · refine zi_iconst S dX0_releaseFor_101 ?_
        refine lv_goto (tgt := 107) S.1 S.2.1 dX0_releaseFor_102 (by decide) ?_
        exact xreti (lfx, trx, dnx, lnx) S hr rfl hlk w (Or.inr ⟨k0, rfl, hk06, hkP, Or.inl ⟨rfl, fun v h1 h2 => hhi v (by omega) h2⟩⟩) dX0_releaseFor_107
    · refine lv_iload S.1 S.2.1 dX0_releaseFor_35 (lv_at hl 4 rfl) ?_
      refine lv_iload S.1 S.2.1 dX0_releaseFor_37 (lv_at hl 5 rfl) ?_
      refine zi_icmp_ge (tgt := 89) S dX0_releaseFor_39 (by decide) (by omega) (by omega) (fun c58 => ?_) (fun c58 => ?_)
      · have heq : lo = hi := by
          by_cases q : rd = 9
          · subst q
            have e9 : 201 / 2 ^ 9 = 0 := by decide
            rw [e9] at hwd
            omega
          · omega
        refine lv_aload_n S.1 S.2.1 dX0_releaseFor_89 rfl (lv_at hl 0 rfl) ?_
        refine xg_rel S w dX0_releaseFor_90 ?_
        refine lv_iload_n S.1 S.2.1 dX0_releaseFor_93 rfl (lv_at hl 1 rfl) ?_
        refine lv_iload_n S.1 S.2.1 dX0_releaseFor_94 rfl (lv_at hl 3 rfl) ?_
        refine xs_rel S w k0 (by first | rfl | omega) (by omega) (by omega) dX0_releaseFor_95 (fun H locs w => ?_)
        rw [updZ_back hax] at w
        refine lv_iload S.1 S.2.1 dX0_releaseFor_96 (lv_at hl 4 rfl) ?_
        refine zi_if_ge (tgt := 105) S dX0_releaseFor_98 (by decide) (by omega) (fun c59 => ?_) (fun c59 => ?_)
        · refine lv_iload S.1 S.2.1 dX0_releaseFor_105 (lv_at hl 4 rfl) ?_
          exact xreti (lfx, trx, dnx, lnx) S hr rfl hlk w (Or.inr ⟨k0, rfl, hk06, hkP, Or.inr ⟨by omega, by omega, (Or.resolve_left hlo (by omega)).2, fun v h1 h2 => hhi v (by omega) h2⟩⟩) dX0_releaseFor_107
        · refine zi_iconst S dX0_releaseFor_101 ?_
          refine lv_goto (tgt := 107) S.1 S.2.1 dX0_releaseFor_102 (by decide) ?_
          exact xreti (lfx, trx, dnx, lnx) S hr rfl hlk w (Or.inr ⟨k0, rfl, hk06, hkP, Or.inl ⟨rfl, fun v h1 h2 => hhi v (by omega) h2⟩⟩) dX0_releaseFor_107
      · refine lv_iload S.1 S.2.1 dX0_releaseFor_42 (lv_at hl 4 rfl) ?_
        refine lv_iload S.1 S.2.1 dX0_releaseFor_44 (lv_at hl 5 rfl) ?_
        refine zi_iadd S dX0_releaseFor_46 ?_
        refine zi_iconst S dX0_releaseFor_47 ?_
        refine zi_iadd S dX0_releaseFor_48 ?_
        refine zi_iconst S dX0_releaseFor_49 ?_
        refine zi_half S (by omega) dX0_releaseFor_50 ?_
        obtain ⟨md, emd⟩ : ∃ md : Int, md = (lo + hi + 1) / 2 := ⟨_, rfl⟩
        refine W_is md emd.symm ?_
        refine lv_istore (lv' := [(7, .int (iI md)), (0, .ref (h 0)), (1, .int (iI (k0 : Int))), (2, .int (iI n)), (3, .int (iI (rel k0))), (4, .int (iI lo)), (5, .int (iI hi)), (6, .int (iI (rd : Int)))]) S.1 S.2.1 dX0_releaseFor_51 hl (by decide) rfl (fun ls hl => ?_)
        refine lv_aload_n S.1 S.2.1 dX0_releaseFor_53 rfl (lv_at hl 1 rfl) ?_
        refine xg_rel S w dX0_releaseFor_54 ?_
        refine lv_iload_n S.1 S.2.1 dX0_releaseFor_57 rfl (lv_at hl 2 rfl) ?_
        refine lv_iload S.1 S.2.1 dX0_releaseFor_58 (lv_at hl 0 rfl) ?_
        refine zi_i2s S (by omega) dX0_releaseFor_60 ?_
        refine xs_rel S w k0 (by first | rfl | omega) (by omega) (by omega) dX0_releaseFor_61 (fun H locs w => ?_)
        rw [updZ_on md hax] at w
        refine lv_aload_n S.1 S.2.1 dX0_releaseFor_62 rfl (lv_at hl 1 rfl) ?_
        refine xcalli [] S w fX_plainLeast (mX_plainLeast l P (updZ rel k0 md) len tl lfx trx dnx lnx kn ll bo hP (dOK_rel hd k0 (by omega)) hlen1) rfl ⟨Nat.le_of_ble_eq_true rfl, Nat.le_of_ble_eq_true rfl⟩ hl.1 (Nat.le_of_ble_eq_true rfl) rfl ⟨Nat.zero_le _, Nat.zero_le _⟩ dX0_releaseFor_63 (fun z u H locs hp w => ?_)
        obtain ⟨lfy, try_, dny, lny⟩ := u
        have w : xA D h g A s s.heap P (updZ rel k0 md) len tl lfy try_ dny lny kn ll bo H locs := w
        obtain ⟨hm, hz⟩ := hp
        have hiff := fits_iff (n := n) (dOK_rel hd k0 (v := md) (by omega)) hP hm
        obtain ⟨zz, rfl⟩ : ∃ zz, zz = z := ⟨_, rfl⟩
        refine lv_iload_n S.1 S.2.1 dX0_releaseFor_66 rfl (lv_at hl 3 rfl) ?_
        refine zi_icmp_gt (tgt := 77) S dX0_releaseFor_67 (by decide) (by omega) (by omega) (fun c60 => ?_) (fun c60 => ?_)
        · refine lv_iload S.1 S.2.1 dX0_releaseFor_77 (lv_at hl 0 rfl) ?_
          refine zi_iconst S dX0_releaseFor_79 ?_
          refine zi_isub S dX0_releaseFor_80 ?_
          refine lv_istore (lv' := [(5, .int (iI (md - 1))), (7, .int (iI md)), (0, .ref (h 0)), (1, .int (iI (k0 : Int))), (2, .int (iI n)), (3, .int (iI (rel k0))), (4, .int (iI lo)), (6, .int (iI (rd : Int)))]) S.1 S.2.1 dX0_releaseFor_81 hl (by decide) rfl (fun ls hl => ?_)
          refine lv_iinc (v := iI ((rd + 1 : Nat) : Int)) (lv' := [(6, .int (iI ((rd + 1 : Nat) : Int))), (5, .int (iI (md - 1))), (7, .int (iI md)), (0, .ref (h 0)), (1, .int (iI (k0 : Int))), (2, .int (iI n)), (3, .int (iI (rel k0))), (4, .int (iI lo))]) S.1 S.2.1 dX0_releaseFor_83 hl (k := 7) rfl ((iI_add _ _).trans (congrArg iI (by omega))) (by decide) rfl (fun ls hl => ?_)
          refine lv_goto (tgt := 28) S.1 S.2.1 dX0_releaseFor_86 (by decide) ?_
          have hhw := half_w rd
          exact ih _ _ _ _ (by omega) ⟨rd + 1, lo, (md - 1), (updZ rel k0 md), lfy, try_, dny, lny, rfl, by omega, by omega, hlo, (fun v h1 h2 q => absurd (hiff.mpr (fits_rel (v := v) (by omega) q)) (by omega)), by rw [hhw]; omega, fun i hi => updZ_n hi, w, lv_sub hl [3, 4, 5, 6, 7, 1, 0] rfl⟩
        · refine lv_iload S.1 S.2.1 dX0_releaseFor_70 (lv_at hl 0 rfl) ?_
          refine lv_istore (lv' := [(4, .int (iI md)), (7, .int (iI md)), (0, .ref (h 0)), (1, .int (iI (k0 : Int))), (2, .int (iI n)), (3, .int (iI (rel k0))), (5, .int (iI hi)), (6, .int (iI (rd : Int)))]) S.1 S.2.1 dX0_releaseFor_72 hl (by decide) rfl (fun ls hl => ?_)
          refine lv_goto (tgt := 83) S.1 S.2.1 dX0_releaseFor_74 (by decide) ?_
          refine lv_iinc (v := iI ((rd + 1 : Nat) : Int)) (lv' := [(6, .int (iI ((rd + 1 : Nat) : Int))), (4, .int (iI md)), (7, .int (iI md)), (0, .ref (h 0)), (1, .int (iI (k0 : Int))), (2, .int (iI n)), (3, .int (iI (rel k0))), (5, .int (iI hi))]) S.1 S.2.1 dX0_releaseFor_83 hl (k := 7) rfl ((iI_add _ _).trans (congrArg iI (by omega))) (by decide) rfl (fun ls hl => ?_)
          refine lv_goto (tgt := 28) S.1 S.2.1 dX0_releaseFor_86 (by decide) ?_
          have hhw := half_w rd
          exact ih _ _ _ _ (by omega) ⟨rd + 1, md, hi, (updZ rel k0 md), lfy, try_, dny, lny, rfl, by omega, by omega, (Or.inr ⟨by omega, hiff.mp (by omega)⟩), hhi, by rw [hhw]; omega, fun i hi => updZ_n hi, w, lv_sub hl [3, 4, 5, 6, 1, 7, 0] rfl⟩
  · skip
    refine zi_if_ne (tgt := 10) S dX0_releaseFor_5 (by decide) (by omega) (fun c61 => absurd c61 (by omega)) (fun c61 => ?_)
    refine zi_iconst S dX0_releaseFor_8 ?_
    exact xreti (lf, tr, dn, ln) S hr rfl hlk w (Or.inl ⟨rfl, hno⟩) dX0_releaseFor_9
end
section
/-! HeadTailModel: its words -/
set_option maxRecDepth 100000
/-- the reference holds the jobs M with their data -/
def yOK (th pt : Nat → Int) (M : Nat) (rel len tl : Nat → Int) : Prop := M < 64 ∧ (∀ j, j < 6 → th j = if M.testBit j = true then 1 else 0) ∧ ∀ j, j < 6 → pt (3 * j) = rel j ∧ pt (3 * j + 1) = len j ∧ pt (3 * j + 2) = tl j
theorem y_th {th pt : Nat → Int} {M : Nat} {rel len tl : Nat → Int} (h : yOK th pt M rel len tl) {j : Nat} (hj : j < 6) : (th j = 1 ∧ M.testBit j = true) ∨ (th j = 0 ∧ M.testBit j = false) := by
  have := h.2.1 j hj
  cases hb : M.testBit j
  · rw [hb] at this
    exact Or.inr ⟨this, rfl⟩
  · rw [hb] at this
    exact Or.inl ⟨this, rfl⟩
/-- the jobs of M below k, as a mask -/
def lowM (M : Nat) : Nat → Nat
  | 0 => 0
  | k + 1 => lowM M k ||| (if M.testBit k = true then 2 ^ k else 0)
theorem lowM_t {M k : Nat} (h : M.testBit k = true) : lowM M k ||| 2 ^ k = lowM M (k + 1) := by
  show _ = lowM M k ||| (if M.testBit k = true then 2 ^ k else 0)
  rw [if_pos h]
theorem lowM_f {M k : Nat} (h : M.testBit k = false) : lowM M k ||| 0 = lowM M (k + 1) := by
  show _ = lowM M k ||| (if M.testBit k = true then 2 ^ k else 0)
  rw [if_neg (by rw [h]; simp)]
theorem lowM_bit (M : Nat) : ∀ k i, (lowM M k).testBit i = (decide (i < k) && M.testBit i)
  | 0, i => by show (0 : Nat).testBit i = _; simp
  | k + 1, i => by
    show (lowM M k ||| (if M.testBit k = true then 2 ^ k else 0)).testBit i = _
    rw [Nat.testBit_or, lowM_bit M k i]
    by_cases h : M.testBit k = true
    · rw [if_pos h, bit_one]
      by_cases e : k = i
      · subst e; simp [h]
      · by_cases q : i < k
        · have : i < k + 1 := by omega
          simp [q, this, e]
        · have : ¬ i < k + 1 := by omega
          simp [q, this, e]
    · rw [if_neg h]
      by_cases e : i = k
      · subst e; simp at h; simp [h]
      · by_cases q : i < k
        · have : i < k + 1 := by omega
          simp [q, this]
        · have : ¬ i < k + 1 := by omega
          simp [q, this]
theorem lowM_6 {M : Nat} (h : M < 64) : lowM M 6 = M := mask_ext fun i => by
  rw [lowM_bit]
  by_cases q : i < 6
  · simp [q]
  · simp [q, lt64.mp h i (by omega)]
theorem ct_b {M k : Nat} (h : M.testBit k = true) : fb_ct M.testBit (k + 1) = fb_ct M.testBit k + 1 := by rw [fb_ct_succ, h]; rfl
theorem ct_n {M k : Nat} (h : M.testBit k = false) : fb_ct M.testBit (k + 1) = fb_ct M.testBit k := by rw [fb_ct_succ, h]; rfl
/-- the spelling of order number c: k places stand -/
def spInv (rel len tl : Nat → Int) (M c k rs R : Nat) (t L : Int) (li st : Nat → Int) : Prop :=
  k ≤ cnt M ∧ rs < fact (cnt M - k) ∧ R < 64 ∧ cnt R = cnt M - k ∧ (∀ i, R.testBit i = true → M.testBit i = true) ∧ (dec (cnt M) M c).drop k = dec (cnt M - k) R rs ∧ run rel len tl 0 0 (dec (cnt M) M c) = run rel len tl t L (dec (cnt M - k) R rs) ∧ (∀ i, i < k → li i = (((dec (cnt M) M c).getD i 0 : Nat) : Int)) ∧ (∀ j, M.testBit j = true → R.testBit j = false → st j = beg rel len 0 (dec (cnt M) M c) j) ∧ (∀ j, R.testBit j = true → beg rel len 0 (dec (cnt M) M c) j = beg rel len t (dec (cnt M - k) R rs) j) ∧ (0 ≤ t ∧ t ≤ 212 * k) ∧ (0 ≤ L ∧ L ≤ 212 * k + 200)
theorem sp_init {rel len tl : Nat → Int} {M c : Nat} (hM : M < 64) (hc : c < fact (cnt M)) (li st : Nat → Int) : spInv rel len tl M c 0 c M 0 0 li st :=
  ⟨Nat.zero_le _, hc, hM, rfl, fun _ h => h, rfl, rfl, fun i hi => absurd hi (by omega), fun j h1 h2 => (by rw [h1] at h2; cases h2), fun _ _ => rfl, by omega, by omega⟩
theorem sp_step {rel len tl : Nat → Int} (hd : dOK rel len tl) {M c k rs R m : Nat} {t L : Int} {li st : Nat → Int} (H : spInv rel len tl M c k rs R t L li st) (hm : cnt M - k = m + 1) :
    kth R (rs / fact m) < 6 ∧ R.testBit (kth R (rs / fact m)) = true ∧ rs / fact m < cnt R ∧ spInv rel len tl M c (k + 1) (rs % fact m) (sd R (2 ^ kth R (rs / fact m))) (nx rel len t (kth R (rs / fact m))) (max L (nx rel len t (kth R (rs / fact m)) + tl (kth R (rs / fact m)))) (updZ li k ((kth R (rs / fact m) : Nat) : Int)) (updZ st (kth R (rs / fact m)) (max t (rel (kth R (rs / fact m))))) := by
  obtain ⟨p1, p2, p3, p4, p4b, p5, p6, p7, p8, p9, p10, p11⟩ := H
  rw [hm] at p2 p4 p5 p6 p9
  have hs := skip_lt p2
  obtain ⟨g1, g2, g3⟩ := kth_ok (R := R) (s := rs / fact m) (by omega)
  have hcn := cnt_one g1 g2
  have ed : dec (m + 1) R rs = kth R (rs / fact m) :: dec m (sd R (2 ^ kth R (rs / fact m))) (rs % fact m) := rfl
  rw [ed] at p5 p6 p9
  generalize kth R (rs / fact m) = j at *
  have hdj := hd j g1
  have ht : 0 ≤ nx rel len t j ∧ nx rel len t j ≤ 212 * (k + 1) := by unfold nx; omega
  have em : cnt M - (k + 1) = m := by omega
  have hself := p9 j g2
  have hb1 : beg rel len t (j :: dec m (sd R (2 ^ j)) (rs % fact m)) j = max t (rel j) := if_pos rfl
  refine ⟨g1, g2, by omega, by omega, ?_, sd_lt _ p3, ?_, ?_, ?_, ?_, ?_, ?_, ?_, by omega, by omega⟩
  · rw [em]; exact Nat.mod_lt _ (fact_pos m)
  · rw [em]; omega
  · intro i hi
    rw [sd_one] at hi
    simp only [Bool.and_eq_true] at hi
    exact p4b i hi.1
  · rw [em]
    have h1 : (dec (cnt M) M c).drop (k + 1) = ((dec (cnt M) M c).drop k).drop 1 := by rw [List.drop_drop]
    rw [h1, p5]
    rfl
  · rw [em]; exact p6
  · intro i hi
    by_cases q : i = k
    · subst q
      rw [updZ_s]
      have h1 : ((dec (cnt M) M c).drop i).getD 0 0 = (dec (cnt M) M c).getD i 0 := by simp [List.getD_eq_getElem?_getD, List.getElem?_drop]
      rw [p5] at h1
      have h2 : (dec (cnt M) M c).getD i 0 = j := h1.symm
      rw [h2]
    · rw [updZ_n q]; exact p7 i (by omega)
  · intro i h1 h2
    by_cases q : i = j
    · subst q
      rw [updZ_s, hself, hb1]
    · rw [updZ_n q]
      refine p8 i h1 ?_
      rw [sd_one] at h2
      have q2 : ¬ j = i := fun z => q z.symm
      simpa [q2] using h2
  · intro i hi
    rw [em]
    rw [sd_one] at hi
    simp only [Bool.and_eq_true, Bool.not_eq_true', decide_eq_false_iff_not] at hi
    rw [p9 i hi.1]
    exact if_neg hi.2
theorem sp_end {rel len tl : Nat → Int} {M c k rs R : Nat} {t L : Int} {li st : Nat → Int} (H : spInv rel len tl M c k rs R t L li st) (hk : k = cnt M) : L = run rel len tl 0 0 (dec (cnt M) M c) ∧ (∀ i, i < cnt M → li i = (((dec (cnt M) M c).getD i 0 : Nat) : Int)) ∧ ∀ j, M.testBit j = true → st j = beg rel len 0 (dec (cnt M) M c) j := by
  obtain ⟨p1, p2, p3, p4, p4b, p5, p6, p7, p8, p9, p10, p11⟩ := H
  subst hk
  have e0 : cnt M - cnt M = 0 := by omega
  rw [e0] at p4 p6
  have eR := (cnt_zero p3).mp p4
  subst eR
  exact ⟨p6.symm, p7, fun j hj => p8 j hj (by simp)⟩
/-- the places of a job in a list of n jobs -/
def plIs (n : Nat) (li : Nat → Int) (j z : Int) : Prop := (z = 6 ∧ ∀ i, i < n → li i ≠ j) ∨ ∃ k : Nat, z = (k : Int) ∧ k < n ∧ li k = j ∧ ∀ i, k < i → i < n → li i ≠ j
theorem pl_yes {n : Nat} {li : Nat → Int} {j z : Int} (h : plIs n li j z) (e : li n = j) : plIs (n + 1) li j (n : Int) := Or.inr ⟨n, rfl, by omega, e, fun i h1 h2 => by omega⟩
theorem pl_no {n : Nat} {li : Nat → Int} {j z : Int} (h : plIs n li j z) (e : ¬ li n = j) : plIs (n + 1) li j z := by
  rcases h with ⟨h1, h2⟩ | ⟨k, h1, h2, h3, h4⟩
  · exact Or.inl ⟨h1, lt_s h2 e⟩
  · refine Or.inr ⟨k, h1, by omega, h3, fun i i1 i2 => ?_⟩
    by_cases q : i = n
    · subst q; exact e
    · exact h4 i i1 (by omega)
theorem pl_r {n : Nat} {li : Nat → Int} {j z : Int} (h : plIs n li j z) (hn : n ≤ 6) : 0 ≤ z ∧ z ≤ 6 := by
  rcases h with ⟨h1, -⟩ | ⟨k, h1, h2, -⟩ <;> omega
theorem ord_inj {x : Nat} : ∀ (o : List Nat) (R i j : Nat), isOrd R o → o[i]? = some x → o[j]? = some x → i = j
  | [], _, i, _, _, h1, _ => by simp at h1
  | y :: o, R, 0, 0, _, _, _ => rfl
  | y :: o, R, 0, j + 1, h, h1, h2 => by
    have e : y = x := Option.some.inj h1
    have h2 : o[j]? = some x := h2
    have := (isOrd_mem o _ h.2 x).mp (List.mem_of_getElem? h2)
    rw [sd_one, e] at this
    simp at this
  | y :: o, R, i + 1, 0, h, h1, h2 => by
    have e : y = x := Option.some.inj h2
    have h1 : o[i]? = some x := h1
    have := (isOrd_mem o _ h.2 x).mp (List.mem_of_getElem? h1)
    rw [sd_one, e] at this
    simp at this
  | y :: o, R, i + 1, j + 1, h, h1, h2 => by
    have := ord_inj o _ i j h.2 h1 h2
    omega
theorem pl_at {o : List Nat} {M : Nat} {li : Nat → Int} {a : Nat} {z : Int} (hM : M < 64) (ho : isOrd M o) (hli : ∀ i, i < cnt M → li i = ((o.getD i 0 : Nat) : Int)) (ha : M.testBit a = true) (h : plIs (cnt M) li (a : Int) z) : ∃ k : Nat, z = (k : Int) ∧ o[k]? = some a := by
  have hlen := isOrd_len o M hM ho
  rcases h with ⟨-, h2⟩ | ⟨k, h1, h2, h3, -⟩
  · exfalso
    obtain ⟨i, hi⟩ := List.getElem?_of_mem ((isOrd_mem o M ho a).mpr ha)
    have hlt : i < o.length := (List.getElem?_eq_some_iff.mp hi).1
    refine h2 i (by omega) ?_
    rw [hli i (by omega), List.getD_eq_getElem?_getD, hi]
    rfl
  · refine ⟨k, h1, ?_⟩
    have hlt : k < o.length := by omega
    rw [hli k h2, List.getD_eq_getElem?_getD, List.getElem?_eq_getElem hlt] at h3
    rw [List.getElem?_eq_getElem hlt]
    congr 1
    have h3 : ((o[k] : Nat) : Int) = (a : Int) := h3
    omega
theorem pl_before {o : List Nat} {M : Nat} {li : Nat → Int} {a b : Nat} {z1 z2 : Int} (hM : M < 64) (ho : isOrd M o) (hli : ∀ i, i < cnt M → li i = ((o.getD i 0 : Nat) : Int)) (ha : M.testBit a = true) (hb : M.testBit b = true) (h1 : plIs (cnt M) li (a : Int) z1) (h2 : plIs (cnt M) li (b : Int) z2) : z1 < z2 ↔ before a b o := by
  obtain ⟨k1, e1, f1⟩ := pl_at hM ho hli ha h1
  obtain ⟨k2, e2, f2⟩ := pl_at hM ho hli hb h2
  constructor
  · intro h
    exact ⟨k1, k2, f1, f2, by omega⟩
  · rintro ⟨m1, m2, g1, g2, hlt⟩
    have := ord_inj o M _ _ ho f1 g1
    have := ord_inj o M _ _ ho f2 g2
    omega
/-- which orders count for leastOf(a, b) -/
def okC (M a b c : Nat) : Prop := a = b ∨ before a b (dec (cnt M) M c)
/-- the least length over the first c orders that count -/
def loInv (rel len tl : Nat → Int) (M : Nat) (ok : Nat → Prop) (c : Nat) (z : Int) : Prop := (0 ≤ z ∧ z ≤ 100000) ∧ (∀ c', c' < c → ok c' → z ≤ run rel len tl 0 0 (dec (cnt M) M c')) ∧ (z = 100000 ∨ ∃ c', c' < c ∧ ok c' ∧ run rel len tl 0 0 (dec (cnt M) M c') = z)
theorem lo_0 (rel len tl : Nat → Int) (M : Nat) (ok : Nat → Prop) : loInv rel len tl M ok 0 100000 := ⟨by omega, fun c hc => absurd hc (by omega), Or.inl rfl⟩
theorem lo_skip {rel len tl : Nat → Int} {M : Nat} {ok : Nat → Prop} {c : Nat} {z : Int} (h : loInv rel len tl M ok c z) (hs : z ≤ run rel len tl 0 0 (dec (cnt M) M c) ∨ ¬ ok c) : loInv rel len tl M ok (c + 1) z := by
  refine ⟨h.1, lt_s h.2.1 (fun q => ?_), ?_⟩
  · rcases hs with e | e
    · exact e
    · exact absurd q e
  · rcases h.2.2 with e | ⟨c', h1, h2⟩
    · exact Or.inl e
    · exact Or.inr ⟨c', by omega, h2⟩
theorem lo_take {rel len tl : Nat → Int} {M : Nat} {ok : Nat → Prop} {c : Nat} {z v : Int} (h : loInv rel len tl M ok c z) (hv : v = run rel len tl 0 0 (dec (cnt M) M c)) (h0 : 0 ≤ v) (hs : v < z) (hok : ok c) : loInv rel len tl M ok (c + 1) v := by
  refine ⟨⟨h0, by have := h.1; omega⟩, lt_s (fun c' h1 h2 => ?_) (fun _ => by rw [hv]; exact Int.le_refl _), Or.inr ⟨c, by omega, hok, hv.symm⟩⟩
  have := h.2.1 c' h1 h2
  omega
theorem lo_any {rel len tl : Nat → Int} {M : Nat} (hM : M < 64) {ok : Nat → Prop} {z : Int} (h : loInv rel len tl M ok (fact (cnt M)) z) (hok : ∀ c, ok c) : wMin rel len tl (-1) (-1) M 0 0 0 z := by
  refine ⟨fun o ho _ => ?_, ?_⟩
  · obtain ⟨c, h1, h2⟩ := dec_all o M _ hM rfl ho
    have := h.2.1 c h1 (hok c)
    rw [h2] at this
    exact this
  · rcases h.2.2 with e | ⟨c, h1, -, h3⟩
    · exact Or.inl e
    · exact Or.inr ⟨_, dec_ord _ M c hM rfl h1, okO_no (by omega) _ _, h3⟩
theorem lo_two {rel len tl : Nat → Int} {M : Nat} (hM : M < 64) {a b : Nat} (hab : a ≠ b) (ha : M.testBit a = true) (hb : M.testBit b = true) {z : Int} (h : loInv rel len tl M (okC M a b) (fact (cnt M)) z) : wMin rel len tl a b M 0 0 0 z := by
  refine ⟨fun o ho hk => ?_, ?_⟩
  · obtain ⟨c, h1, h2⟩ := dec_all o M _ hM rfl ho
    have := h.2.1 c h1 (Or.inr (by rw [h2]; exact (okO_before hab o M 0 ho ha hb (by simp)).mp hk))
    rw [h2] at this
    exact this
  · rcases h.2.2 with e | ⟨c, h1, h2, h3⟩
    · exact Or.inl e
    · have ho := dec_ord _ M c hM rfl h1
      rcases h2 with q | q
      · exact absurd q hab
      · exact Or.inr ⟨_, ho, (okO_before hab _ M 0 ho ha hb (by simp)).mpr q, h3⟩
/-- orders that begin with job a -/
def okF (M a c : Nat) : Prop := (dec (cnt M) M c).getD 0 0 = a
theorem lo_first {rel len tl : Nat → Int} {M : Nat} (hM : M < 64) {a : Nat} (ha : M.testBit a = true) {z : Int} (h : loInv rel len tl M (okF M a) (fact (cnt M)) z) : wMin rel len tl (-1) (-1) (sd M (2 ^ a)) (2 ^ a) (nx rel len 0 a) (max 0 (nx rel len 0 a + tl a)) z := by
  refine ⟨fun o ho _ => ?_, ?_⟩
  · obtain ⟨c, h1, h2⟩ := dec_all (a :: o) M _ hM rfl ⟨ha, ho⟩
    have := h.2.1 c h1 (by unfold okF; rw [h2]; rfl)
    rw [h2] at this
    exact this
  · rcases h.2.2 with e | ⟨c, h1, h2, h3⟩
    · exact Or.inl e
    · have ho := dec_ord _ M c hM rfl h1
      unfold okF at h2
      cases hdc : dec (cnt M) M c with
      | nil =>
        rw [hdc] at ho
        have e : M = 0 := ho
        rw [e] at ha
        simp at ha
      | cons x o =>
        rw [hdc] at h2 h3 ho
        have e : x = a := h2
        subst e
        exact Or.inr ⟨o, ho.2, okO_no (by omega) _ _, h3⟩
/-- v is the least length, and order c comes to it first -/
theorem best_fst {rel len tl : Nat → Int} {M : Nat} (hM : M < 64) {v : Int} {c : Nat} (hc : c < fact (cnt M)) (h1 : run rel len tl 0 0 (dec (cnt M) M c) = v) (h2 : ∀ c', c' < c → run rel len tl 0 0 (dec (cnt M) M c') ≠ v) : fst rel len tl v M 0 0 (dec (cnt M) M c) := dec_fst _ M c 0 0 hM rfl hc h1 h2
theorem best_ex {rel len tl : Nat → Int} (hd : dOK rel len tl) {M : Nat} (hM : M < 64) {v : Int} (h : wMin rel len tl (-1) (-1) M 0 0 0 v) : ∃ c, c < fact (cnt M) ∧ run rel len tl 0 0 (dec (cnt M) M c) = v := by
  obtain ⟨-, o, h1, h2⟩ := wMin_real hd hM (by omega) (by omega) h
  obtain ⟨c, g1, g2⟩ := dec_all o M _ hM rfl h1
  exact ⟨c, g1, by rw [g2]; exact h2⟩
theorem run_rng {rel len tl : Nat → Int} (hd : dOK rel len tl) {M : Nat} (hM : M < 64) {o : List Nat} (ho : isOrd M o) : 0 ≤ run rel len tl 0 0 o ∧ run rel len tl 0 0 o < 100000 := ⟨run_ge rel len tl o 0 0, run_100000 hd hM (by omega) (by omega) o ho⟩
/-- bound(R): the least release, the lengths, the least tail of the jobs of R below k -/
def mnInv (f : Nat → Int) (R k : Nat) (z : Int) : Prop := (∀ j, j < k → R.testBit j = true → z ≤ f j) ∧ (z = 100 ∨ ∃ j, j < k ∧ R.testBit j = true ∧ z = f j)
theorem mn_no {f : Nat → Int} {R k : Nat} {z : Int} (h : mnInv f R k z) (hs : R.testBit k = false ∨ z ≤ f k) : mnInv f R (k + 1) z := by
  refine ⟨lt_s h.1 (fun q => ?_), ?_⟩
  · rcases hs with e | e
    · rw [q] at e; cases e
    · exact e
  · rcases h.2 with e | ⟨j, h1, h2⟩
    · exact Or.inl e
    · exact Or.inr ⟨j, by omega, h2⟩
theorem mn_yes {f : Nat → Int} {R k : Nat} {z : Int} (h : mnInv f R k z) (hb : R.testBit k = true) (hs : f k < z) : mnInv f R (k + 1) (f k) := by
  refine ⟨lt_s (fun j h1 h2 => ?_) (fun _ => Int.le_refl _), Or.inr ⟨k, by omega, hb, rfl⟩⟩
  have := h.1 j h1 h2
  omega
theorem mn_end {f : Nat → Int} {R : Nat} {z : Int} (h : mnInv f R 6 z) (hf : ∀ j, j < 6 → f j ≤ 40) {j : Nat} (hj : j < 6) (hb : R.testBit j = true) : (∀ j, j < 6 → R.testBit j = true → z ≤ f j) ∧ ∃ j, j < 6 ∧ R.testBit j = true ∧ z = f j := by
  refine ⟨h.1, ?_⟩
  rcases h.2 with e | e
  · have h1 := h.1 j hj hb
    have h2 := hf j hj
    omega
  · exact e
def smR (len : Nat → Int) (R k : Nat) : Int := fb_si (fun j => if R.testBit j = true then len j else 0) k
theorem sm_t {len : Nat → Int} {R k : Nat} (h : R.testBit k = true) : smR len R (k + 1) = smR len R k + len k := by
  unfold smR
  rw [fb_si_succ, if_pos h]
theorem sm_f {len : Nat → Int} {R k : Nat} (h : R.testBit k = false) : smR len R (k + 1) = smR len R k := by
  unfold smR
  rw [fb_si_succ, if_neg (by rw [h]; simp)]
  omega
/-- z is what bound(R) answers -/
def bdIs (rel len tl : Nat → Int) (R : Nat) (z : Int) : Prop := ∃ r q : Int, mnInv rel R 6 r ∧ mnInv tl R 6 q ∧ z = r + smR len R 6 + q
/-- interrupted(): the sets below R looked at -/
def itInv (rel len tl : Nat → Int) (M R : Nat) (z : Int) : Prop := 0 ≤ z ∧ (∀ R', 1 ≤ R' → R' < R → sd R' M = 0 → ∃ y, bdIs rel len tl R' y ∧ y ≤ z) ∧ (z = 0 ∨ ∃ R', 1 ≤ R' ∧ R' < R ∧ sd R' M = 0 ∧ bdIs rel len tl R' z)
theorem it_skip {rel len tl : Nat → Int} {M R : Nat} {z y : Int} (h : itInv rel len tl M R z) (hy : bdIs rel len tl R y) (hs : sd R M ≠ 0 ∨ y ≤ z) : itInv rel len tl M (R + 1) z := by
  refine ⟨h.1, fun R' h1 h2 h3 => ?_, ?_⟩
  · by_cases e : R' = R
    · subst e
      rcases hs with q | q
      · exact absurd h3 q
      · exact ⟨y, hy, q⟩
    · exact h.2.1 R' h1 (by omega) h3
  · rcases h.2.2 with e | ⟨R', h1, h2, h3⟩
    · exact Or.inl e
    · exact Or.inr ⟨R', h1, by omega, h3⟩
theorem it_take {rel len tl : Nat → Int} {M R : Nat} {z y : Int} (h : itInv rel len tl M R z) (hR : 1 ≤ R) (hy : bdIs rel len tl R y) (hs : sd R M = 0) (hlt : z < y) : itInv rel len tl M (R + 1) y := by
  refine ⟨by have := h.1; omega, fun R' h1 h2 h3 => ?_, Or.inr ⟨R, hR, by omega, hs, hy⟩⟩
  by_cases e : R' = R
  · subst e; exact ⟨y, hy, Int.le_refl _⟩
  · obtain ⟨x, x1, x2⟩ := h.2.1 R' h1 (by omega) h3
    exact ⟨x, x1, by omega⟩
/-- a set of jobs as a mask -/
def mkM (T : Nat → Bool) : Nat → Nat
  | 0 => 0
  | k + 1 => mkM T k ||| (if T k = true then 2 ^ k else 0)
theorem mkM_bit (T : Nat → Bool) : ∀ k i, (mkM T k).testBit i = (decide (i < k) && T i)
  | 0, i => by show (0 : Nat).testBit i = _; simp
  | k + 1, i => by
    show (mkM T k ||| (if T k = true then 2 ^ k else 0)).testBit i = _
    rw [Nat.testBit_or, mkM_bit T k i]
    by_cases h : T k = true
    · rw [if_pos h, bit_one]
      by_cases e : k = i
      · subst e; simp [h]
      · by_cases q : i < k
        · have : i < k + 1 := by omega
          simp [q, this, e]
        · have : ¬ i < k + 1 := by omega
          simp [q, this, e]
    · rw [if_neg h]
      by_cases e : i = k
      · subst e; simp at h; simp [h]
      · by_cases q : i < k
        · have : i < k + 1 := by omega
          simp [q, this]
        · have : ¬ i < k + 1 := by omega
          simp [q, this]
theorem it_end {rel len tl : Nat → Int} {M : Nat} {z : Int} (hr : ∀ j, j < 6 → 0 ≤ rel j ∧ rel j ≤ 40) (ht : ∀ j, j < 6 → tl j ≤ 40) (h : itInv rel len tl M 64 z) : jpsIs rel len tl M 0 z := by
  refine ⟨h.1, fun T a q hex hall => ?_, fun B hB hh => ?_⟩
  · obtain ⟨j, hj, hT⟩ := hex
    have hbit : ∀ i, (mkM T 6).testBit i = (decide (i < 6) && T i) := mkM_bit T 6
    have hlt : mkM T 6 < 64 := lt64.mpr fun i hi => by
      rw [hbit]
      have : ¬ i < 6 := by omega
      simp [this]
    have hjb : (mkM T 6).testBit j = true := by rw [hbit]; simp [hj, hT]
    have hpos : 1 ≤ mkM T 6 := by
      rcases Nat.eq_zero_or_pos (mkM T 6) with e | e
      · rw [e] at hjb
        simp at hjb
      · exact e
    have hsub : sd (mkM T 6) M = 0 := mask_ext fun i => by
      rw [sd_bit, hbit]
      by_cases hi : i < 6
      · by_cases hTi : T i = true
        · have := (hall i hi hTi).1
          simp [this]
        · simp at hTi
          simp [hTi]
      · simp [hi]
    obtain ⟨y, ⟨r, q', m1, m2, ey⟩, hyz⟩ := h.2.1 (mkM T 6) hpos hlt hsub
    obtain ⟨-, j1, a1, a2, a3⟩ := mn_end m1 (fun j hj => (hr j hj).2) hj hjb
    obtain ⟨-, j2, b1, b2, b3⟩ := mn_end m2 ht hj hjb
    have hT1 : T j1 = true := by rw [hbit] at a2; simp at a2; exact a2.2
    have hT2 : T j2 = true := by rw [hbit] at b2; simp at b2; exact b2.2
    have c1 := hall j1 a1 hT1
    have c2 := hall j2 b1 hT2
    have c3 := hr j1 a1
    have es : smR len (mkM T 6) 6 = fb_si (fun j => if T j = true then len j else 0) 6 := fb_si_cong fun i hi => by
      rw [hbit]
      simp [hi]
    omega
  · rcases h.2.2 with e | ⟨R', h1, h2, h3, r, q, m1, m2, ey⟩
    · omega
    · obtain ⟨j, hj, hb⟩ := cnt_pos h2 (by omega)
      obtain ⟨a1, -⟩ := mn_end m1 (fun j hj => (hr j hj).2) hj hb
      obtain ⟨b1, -⟩ := mn_end m2 ht hj hb
      have := hh R'.testBit r q ⟨j, hj, hb⟩ (fun i hi hbi => ⟨by
        have e : (sd R' M).testBit i = false := by rw [h3]; simp
        rw [sd_bit, hbi] at e
        simpa using e, by have := a1 i hi hbi; omega, b1 i hi hbi⟩)
      have es : smR len R' 6 = fb_si (fun j => if R'.testBit j = true then len j else 0) 6 := rfl
      omega
end
section
/-! HeadTailModel: the small methods -/
set_option maxRecDepth 100000
set_option maxHeartbeats 4000000 in
/-- is(j) -/
theorem mY_is (l : Launch) (th pt : Nat → Int) (nn od : Int) (li st : Nat → Int) (M : Nat) (rel len tl : Nat → Int) (hy : yOK th pt M rel len tl) (j : Int) (hj : -2147483648 ≤ j ∧ j ≤ 2147483647) : CYi l yX1_is cX1_is 2 (some .boolean) 0 0 [.int (iI j)] (th, pt, nn, od, li, st) (fun z _ => hasIs M j z) (fun (_ : Unit) => (th, pt, nn, od, li, st)) := by
  refine CYi.of (by decide) rfl (fun _ => Nat.le_of_ble_eq_true rfl) ?_
  intro p e s m below meth c D h g A S hr hlk w ls hl
  have hl : lv_has ls 2 [(0, .ref (h 0)), (1, .int (iI j))] := hl
  have w : yA D h g A s s.heap th pt nn od li st s.heap [] := w
  refine lv_iload_n S.1 S.2.1 dX1_is_0 rfl (lv_at hl 1 rfl) ?_
  refine zi_if_lt (tgt := 23) S dX1_is_1 (by decide) (by omega) (fun c28 => ?_) (fun c28 => ?_)
  · refine zi_iconst S dX1_is_23 ?_
    exact yreti () S hr rfl hlk w (Or.inr ⟨rfl, fun k' hk h6 => by first | omega | (have ek : k' = k := (by omega); subst ek; assumption)⟩) dX1_is_24
  · refine lv_iload_n S.1 S.2.1 dX1_is_4 rfl (lv_at hl 1 rfl) ?_
    refine zi_bipush S dX1_is_5 (by decide) ?_
    refine zi_icmp_ge (tgt := 23) S dX1_is_7 (by decide) (by omega) (by omega) (fun c29 => ?_) (fun c29 => ?_)
    · refine zi_iconst S dX1_is_23 ?_
      exact yreti () S hr rfl hlk w (Or.inr ⟨rfl, fun k' hk h6 => by first | omega | (have ek : k' = k := (by omega); subst ek; assumption)⟩) dX1_is_24
    · obtain ⟨k, rfl⟩ : ∃ k : Nat, j = (k : Int) := ⟨j.toNat, by omega⟩
      refine lv_aload_n S.1 S.2.1 dX1_is_10 rfl (lv_at hl 0 rfl) ?_
      refine yg_th S w dX1_is_11 ?_
      refine lv_iload_n S.1 S.2.1 dX1_is_14 rfl (lv_at hl 1 rfl) ?_
      refine yl_th S w k (by first | rfl | omega) (by omega) dX1_is_15 ?_
      rcases y_th hy (show k < 6 by omega) with ⟨eb, hb⟩ | ⟨eb, hb⟩
      · refine W_is 1 eb ?_
        refine zi_if_eq (tgt := 23) S dX1_is_16 (by decide) (by omega) (fun c30 => absurd c30 (by omega)) (fun c30 => ?_)
        refine zi_iconst S dX1_is_19 ?_
        refine lv_goto (tgt := 24) S.1 S.2.1 dX1_is_20 (by decide) ?_
        exact yreti () S hr rfl hlk w (Or.inl ⟨rfl, k, rfl, by omega, hb⟩) dX1_is_24
      · refine W_is 0 eb ?_
        refine zi_if_eq (tgt := 23) S dX1_is_16 (by decide) (by omega) (fun c31 => ?_) (fun c31 => absurd c31 (by omega))
        refine zi_iconst S dX1_is_23 ?_
        exact yreti () S hr rfl hlk w (Or.inr ⟨rfl, fun k' hk h6 => by first | omega | (have ek : k' = k := (by omega); subst ek; assumption)⟩) dX1_is_24
set_option maxHeartbeats 4000000 in
/-- good(r, q, t) -/
theorem mY_good (l : Launch) (th pt : Nat → Int) (nn od : Int) (li st : Nat → Int) (r q t : Int) (hr0 : -2147483648 ≤ r ∧ r ≤ 2147483647) (hq0 : -2147483648 ≤ q ∧ q ≤ 2147483647) (ht0 : -2147483648 ≤ t ∧ t ≤ 2147483647) : CYi l yX1_good cX1_good 4 (some .boolean) 0 0 [.int (iI r), .int (iI q), .int (iI t)] (th, pt, nn, od, li, st) (fun z _ => numIs r q t z) (fun (_ : Unit) => (th, pt, nn, od, li, st)) := by
  refine CYi.of (by decide) rfl (fun _ => Nat.le_of_ble_eq_true rfl) ?_
  intro p e s m below meth c D h g A S hr hlk w ls hl
  have hl : lv_has ls 4 [(0, .ref (h 0)), (1, .int (iI r)), (2, .int (iI q)), (3, .int (iI t))] := hl
  have w : yA D h g A s s.heap th pt nn od li st s.heap [] := w
  refine lv_iload_n S.1 S.2.1 dX1_good_0 rfl (lv_at hl 1 rfl) ?_
  refine zi_if_lt (tgt := 35) S dX1_good_1 (by decide) (by omega) (fun c32 => ?_) (fun c32 => ?_)
  · refine zi_iconst S dX1_good_35 ?_
    exact yreti () S hr rfl hlk w (by unfold numIs numOk; omega) dX1_good_36
  · refine lv_iload_n S.1 S.2.1 dX1_good_4 rfl (lv_at hl 1 rfl) ?_
    refine zi_bipush S dX1_good_5 (by decide) ?_
    refine zi_icmp_gt (tgt := 35) S dX1_good_7 (by decide) (by omega) (by omega) (fun c33 => ?_) (fun c33 => ?_)
    · refine zi_iconst S dX1_good_35 ?_
      exact yreti () S hr rfl hlk w (by unfold numIs numOk; omega) dX1_good_36
    · refine lv_iload_n S.1 S.2.1 dX1_good_10 rfl (lv_at hl 2 rfl) ?_
      refine zi_iconst S dX1_good_11 ?_
      refine zi_icmp_lt (tgt := 35) S dX1_good_12 (by decide) (by omega) (by omega) (fun c34 => ?_) (fun c34 => ?_)
      · refine zi_iconst S dX1_good_35 ?_
        exact yreti () S hr rfl hlk w (by unfold numIs numOk; omega) dX1_good_36
      · refine lv_iload_n S.1 S.2.1 dX1_good_15 rfl (lv_at hl 2 rfl) ?_
        refine zi_bipush S dX1_good_16 (by decide) ?_
        refine zi_icmp_gt (tgt := 35) S dX1_good_18 (by decide) (by omega) (by omega) (fun c35 => ?_) (fun c35 => ?_)
        · refine zi_iconst S dX1_good_35 ?_
          exact yreti () S hr rfl hlk w (by unfold numIs numOk; omega) dX1_good_36
        · refine lv_iload_n S.1 S.2.1 dX1_good_21 rfl (lv_at hl 3 rfl) ?_
          refine zi_if_lt (tgt := 35) S dX1_good_22 (by decide) (by omega) (fun c36 => ?_) (fun c36 => ?_)
          · refine zi_iconst S dX1_good_35 ?_
            exact yreti () S hr rfl hlk w (by unfold numIs numOk; omega) dX1_good_36
          · refine lv_iload_n S.1 S.2.1 dX1_good_25 rfl (lv_at hl 3 rfl) ?_
            refine zi_bipush S dX1_good_26 (by decide) ?_
            refine zi_icmp_gt (tgt := 35) S dX1_good_28 (by decide) (by omega) (by omega) (fun c37 => ?_) (fun c37 => ?_)
            · refine zi_iconst S dX1_good_35 ?_
              exact yreti () S hr rfl hlk w (by unfold numIs numOk; omega) dX1_good_36
            · refine zi_iconst S dX1_good_31 ?_
              refine lv_goto (tgt := 36) S.1 S.2.1 dX1_good_32 (by decide) ?_
              exact yreti () S hr rfl hlk w (by unfold numIs numOk; omega) dX1_good_36
set_option maxHeartbeats 4000000 in
/-- hold(j, r, q, t) -/
theorem mY_hold (l : Launch) (th pt : Nat → Int) (nn od : Int) (li st : Nat → Int) (j : Nat) (hj : j < 6) (r q t : Int) : CYv l yX1_hold cX1_hold 5 0 0 [.int (iI (j : Int)), .int (iI r), .int (iI q), .int (iI t)] (th, pt, nn, od, li, st) (fun _ => True) (fun (_ : Unit) => (th, (updZ (updZ (updZ pt (3 * j) r) (3 * j + 1) q) (3 * j + 2) t), nn, od, li, st)) := by
  refine CYv.of (by decide) rfl (fun _ => Nat.le_of_ble_eq_true rfl) ?_
  intro p e s m below meth c D h g A S hr hlk w ls hl
  have hl : lv_has ls 5 [(0, .ref (h 0)), (1, .int (iI (j : Int))), (2, .int (iI r)), (3, .int (iI q)), (4, .int (iI t))] := hl
  have w : yA D h g A s s.heap th pt nn od li st s.heap [] := w
  refine lv_aload_n S.1 S.2.1 dX1_hold_0 rfl (lv_at hl 0 rfl) ?_
  refine yg_pt S w dX1_hold_1 ?_
  refine zi_iconst S dX1_hold_4 ?_
  refine lv_iload_n S.1 S.2.1 dX1_hold_5 rfl (lv_at hl 1 rfl) ?_
  refine zi_imul S dX1_hold_6 ?_
  refine lv_iload_n S.1 S.2.1 dX1_hold_7 rfl (lv_at hl 2 rfl) ?_
  refine ys_pt S w (3 * j) (by first | rfl | omega) (by omega) dX1_hold_8 (fun H locs w => ?_)
  refine lv_aload_n S.1 S.2.1 dX1_hold_9 rfl (lv_at hl 0 rfl) ?_
  refine yg_pt S w dX1_hold_10 ?_
  refine zi_iconst S dX1_hold_13 ?_
  refine lv_iload_n S.1 S.2.1 dX1_hold_14 rfl (lv_at hl 1 rfl) ?_
  refine zi_imul S dX1_hold_15 ?_
  refine zi_iconst S dX1_hold_16 ?_
  refine zi_iadd S dX1_hold_17 ?_
  refine lv_iload_n S.1 S.2.1 dX1_hold_18 rfl (lv_at hl 3 rfl) ?_
  refine ys_pt S w ((3 * j) + 1) (by first | rfl | omega) (by omega) dX1_hold_19 (fun H locs w => ?_)
  refine lv_aload_n S.1 S.2.1 dX1_hold_20 rfl (lv_at hl 0 rfl) ?_
  refine yg_pt S w dX1_hold_21 ?_
  refine zi_iconst S dX1_hold_24 ?_
  refine lv_iload_n S.1 S.2.1 dX1_hold_25 rfl (lv_at hl 1 rfl) ?_
  refine zi_imul S dX1_hold_26 ?_
  refine zi_iconst S dX1_hold_27 ?_
  refine zi_iadd S dX1_hold_28 ?_
  refine lv_iload S.1 S.2.1 dX1_hold_29 (lv_at hl 4 rfl) ?_
  refine ys_pt S w ((3 * j) + 2) (by first | rfl | omega) (by omega) dX1_hold_31 (fun H locs w => ?_)
  exact yretv () S hr hlk w trivial dX1_hold_32
set_option maxHeartbeats 4000000 in
/-- add(r, q, t) -/
theorem mY_add (l : Launch) (th pt : Nat → Int) (nn od : Int) (li st : Nat → Int) (M : Nat) (rel len tl : Nat → Int) (hy : yOK th pt M rel len tl) (r q t : Int) (hr0 : -2147483648 ≤ r ∧ r ≤ 2147483647) (hq0 : -2147483648 ≤ q ∧ q ≤ 2147483647) (ht0 : -2147483648 ≤ t ∧ t ≤ 2147483647) : CYi l yX1_add cX1_add 5 (some .int) 1 24 [.int (iI r), .int (iI q), .int (iI t)] (th, pt, nn, od, li, st) (fun z (u : YS) => (z = -1 ∧ ¬ numOk r q t ∧ u = (th, pt, nn, od, li, st)) ∨ (numOk r q t ∧ ∃ k : Nat, k < 6 ∧ z = (k : Int) ∧ M.testBit k = false ∧ (∀ i, i < k → M.testBit i = true) ∧ u = (updZ th k 1, (updZ (updZ (updZ pt (3 * k) r) (3 * k + 1) q) (3 * k + 2) t), nn, od, li, st)) ∨ (z = -2 ∧ numOk r q t ∧ (∀ i, i < 6 → M.testBit i = true) ∧ u = (th, pt, nn, od, li, st))) (fun u => u) := by
  refine CYi.of (by decide) rfl (fun _ => Nat.le_of_ble_eq_true rfl) ?_
  intro p e s m below meth c D h g A S hr hlk w ls hl
  have hl : lv_has ls 5 [(0, .ref (h 0)), (1, .int (iI r)), (2, .int (iI q)), (3, .int (iI t))] := hl
  have w : yA D h g A s s.heap th pt nn od li st s.heap [] := w
  refine lv_aload_n S.1 S.2.1 dX1_add_0 rfl (lv_at hl 0 rfl) ?_
  refine lv_iload_n S.1 S.2.1 dX1_add_1 rfl (lv_at hl 1 rfl) ?_
  refine lv_iload_n S.1 S.2.1 dX1_add_2 rfl (lv_at hl 2 rfl) ?_
  refine lv_iload_n S.1 S.2.1 dX1_add_3 rfl (lv_at hl 3 rfl) ?_
  refine ycalli [] S w fY_good (mY_good l th pt nn od li st r q t (by omega) (by omega) (by omega)) rfl ⟨Nat.le_of_ble_eq_true rfl, Nat.le_of_ble_eq_true rfl⟩ hl.1 (Nat.le_of_ble_eq_true rfl) rfl ⟨Nat.zero_le _, Nat.zero_le _⟩ dX1_add_4 (fun z u H locs hp w => ?_)
  have w : yA D h g A s s.heap th pt nn od li st H locs := w
  rcases hp with ⟨rfl, hok⟩ | ⟨rfl, hok⟩
  · skip
    refine zi_if_ne (tgt := 12) S dX1_add_7 (by decide) (by omega) (fun c38 => ?_) (fun c38 => absurd c38 (by omega))
    refine zi_iconst S dX1_add_12 ?_
    refine lv_istore (lv' := [(4, .int (iI 0)), (0, .ref (h 0)), (1, .int (iI r)), (2, .int (iI q)), (3, .int (iI t))]) S.1 S.2.1 dX1_add_13 hl (by decide) rfl (fun ls hl => ?_)
    refine W_loop (fun n H locs ls => ∃ k2 : Nat, n = 6 - k2 ∧ k2 ≤ 6 ∧ (∀ i, i < k2 → M.testBit i = true) ∧ yA D h g A s s.heap th pt nn od li st H locs ∧ lv_has ls 5 [(0, .ref (h 0)), (1, .int (iI r)), (2, .int (iI q)), (3, .int (iI t)), (4, .int (iI (k2 : Int)))]) 15 ?_ 6 _ _ _ ⟨0, rfl, by omega, fun i hi => absurd hi (by omega), w, lv_sub hl [1, 2, 3, 4, 0] rfl⟩
    intro n H locs ls hI ih
    obtain ⟨k2, hn, hk26, hall, w, hl⟩ := hI
    refine lv_iload S.1 S.2.1 dX1_add_15 (lv_at hl 4 rfl) ?_
    refine zi_bipush S dX1_add_17 (by decide) ?_
    refine zi_icmp_ge (tgt := 58) S dX1_add_19 (by decide) (by omega) (by omega) (fun c39 => ?_) (fun c39 => ?_)
    · refine zi_bipush S dX1_add_58 (by decide) ?_
      exact yreti (th, pt, nn, od, li, st) S hr rfl hlk w (Or.inr (Or.inr ⟨rfl, hok, fun i hi => hall i (by omega), rfl⟩)) dX1_add_60
    · refine lv_aload_n S.1 S.2.1 dX1_add_22 rfl (lv_at hl 0 rfl) ?_
      refine yg_th S w dX1_add_23 ?_
      refine lv_iload S.1 S.2.1 dX1_add_26 (lv_at hl 4 rfl) ?_
      refine yl_th S w k2 (by first | rfl | omega) (by omega) dX1_add_28 ?_
      rcases y_th hy (show k2 < 6 by omega) with ⟨eb, hb⟩ | ⟨eb, hb⟩
      · refine W_is 1 eb ?_
        refine zi_if_ne (tgt := 52) S dX1_add_29 (by decide) (by omega) (fun c40 => ?_) (fun c40 => absurd c40 (by omega))
        refine lv_iinc (v := iI ((k2 + 1 : Nat) : Int)) (lv' := [(4, .int (iI ((k2 + 1 : Nat) : Int))), (0, .ref (h 0)), (1, .int (iI r)), (2, .int (iI q)), (3, .int (iI t))]) S.1 S.2.1 dX1_add_52 hl (k := 4) rfl ((iI_add _ _).trans (congrArg iI (by omega))) (by decide) rfl (fun ls hl => ?_)
        refine lv_goto (tgt := 15) S.1 S.2.1 dX1_add_55 (by decide) ?_
        exact ih _ _ _ _ (by omega) ⟨k2 + 1, rfl, by omega, lt_s hall hb, w, lv_sub hl [1, 2, 3, 4, 0] rfl⟩
      · refine W_is 0 eb ?_
        refine zi_if_ne (tgt := 52) S dX1_add_29 (by decide) (by omega) (fun c41 => absurd c41 (by omega)) (fun c41 => ?_)
        refine lv_aload_n S.1 S.2.1 dX1_add_32 rfl (lv_at hl 0 rfl) ?_
        refine yg_th S w dX1_add_33 ?_
        refine lv_iload S.1 S.2.1 dX1_add_36 (lv_at hl 4 rfl) ?_
        refine zi_iconst S dX1_add_38 ?_
        refine ys_th S w k2 (by first | rfl | omega) (by omega) (by omega) dX1_add_39 (fun H locs w => ?_)
        refine lv_aload_n S.1 S.2.1 dX1_add_40 rfl (lv_at hl 0 rfl) ?_
        refine lv_iload S.1 S.2.1 dX1_add_41 (lv_at hl 4 rfl) ?_
        refine lv_iload_n S.1 S.2.1 dX1_add_43 rfl (lv_at hl 1 rfl) ?_
        refine lv_iload_n S.1 S.2.1 dX1_add_44 rfl (lv_at hl 2 rfl) ?_
        refine lv_iload_n S.1 S.2.1 dX1_add_45 rfl (lv_at hl 3 rfl) ?_
        refine ycallv [] S w fY_hold (mY_hold l (updZ th k2 1) pt nn od li st k2 (by omega) r q t) rfl ⟨Nat.le_of_ble_eq_true rfl, Nat.le_of_ble_eq_true rfl⟩ hl.1 (Nat.le_of_ble_eq_true rfl) rfl ⟨Nat.zero_le _, Nat.zero_le _⟩ dX1_add_46 (fun u H locs hp w => ?_)
        have w : yA D h g A s s.heap (updZ th k2 1) (updZ (updZ (updZ pt (3 * k2) r) (3 * k2 + 1) q) (3 * k2 + 2) t) nn od li st H locs := w
        refine lv_iload S.1 S.2.1 dX1_add_49 (lv_at hl 4 rfl) ?_
        exact yreti (updZ th k2 1, (updZ (updZ (updZ pt (3 * k2) r) (3 * k2 + 1) q) (3 * k2 + 2) t), nn, od, li, st) S hr rfl hlk w (Or.inr (Or.inl ⟨hok, k2, by omega, rfl, hb, hall, rfl⟩)) dX1_add_51
  · skip
    refine zi_if_ne (tgt := 12) S dX1_add_7 (by decide) (by omega) (fun c42 => absurd c42 (by omega)) (fun c42 => ?_)
    refine zi_iconst S dX1_add_10 ?_
    exact yreti (th, pt, nn, od, li, st) S hr rfl hlk w (Or.inl ⟨rfl, hok, rfl⟩) dX1_add_11
set_option maxHeartbeats 4000000 in
/-- remove(j) -/
theorem mY_remove (l : Launch) (th pt : Nat → Int) (nn od : Int) (li st : Nat → Int) (M : Nat) (rel len tl : Nat → Int) (hy : yOK th pt M rel len tl) (j : Int) (hj : -2147483648 ≤ j ∧ j ≤ 2147483647) : CYi l yX1_remove cX1_remove 2 (some .boolean) 1 21 [.int (iI j)] (th, pt, nn, od, li, st) (fun z (u : YS) => (z = 1 ∧ ∃ k : Nat, j = (k : Int) ∧ k < 6 ∧ M.testBit k = true ∧ u = (updZ th k 0, pt, nn, od, li, st)) ∨ (z = 0 ∧ (∀ k : Nat, j = (k : Int) → k < 6 → M.testBit k = false) ∧ u = (th, pt, nn, od, li, st))) (fun u => u) := by
  refine CYi.of (by decide) rfl (fun _ => Nat.le_of_ble_eq_true rfl) ?_
  intro p e s m below meth c D h g A S hr hlk w ls hl
  have hl : lv_has ls 2 [(0, .ref (h 0)), (1, .int (iI j))] := hl
  have w : yA D h g A s s.heap th pt nn od li st s.heap [] := w
  refine lv_aload_n S.1 S.2.1 dX1_remove_0 rfl (lv_at hl 0 rfl) ?_
  refine lv_iload_n S.1 S.2.1 dX1_remove_1 rfl (lv_at hl 1 rfl) ?_
  refine ycalli [] S w fY_is (mY_is l th pt nn od li st M rel len tl hy j (by omega)) rfl ⟨Nat.le_of_ble_eq_true rfl, Nat.le_of_ble_eq_true rfl⟩ hl.1 (Nat.le_of_ble_eq_true rfl) rfl ⟨Nat.zero_le _, Nat.zero_le _⟩ dX1_remove_2 (fun z u H locs hp w => ?_)
  have w : yA D h g A s s.heap th pt nn od li st H locs := w
  rcases hp with ⟨rfl, k, hk, hk6, hkP⟩ | ⟨rfl, hno⟩
  · subst hk
    refine zi_if_ne (tgt := 10) S dX1_remove_5 (by decide) (by omega) (fun c43 => ?_) (fun c43 => absurd c43 (by omega))
    refine lv_aload_n S.1 S.2.1 dX1_remove_10 rfl (lv_at hl 0 rfl) ?_
    refine yg_th S w dX1_remove_11 ?_
    refine lv_iload_n S.1 S.2.1 dX1_remove_14 rfl (lv_at hl 1 rfl) ?_
    refine zi_iconst S dX1_remove_15 ?_
    refine ys_th S w k (by first | rfl | omega) (by omega) (by omega) dX1_remove_16 (fun H locs w => ?_)
    refine zi_iconst S dX1_remove_17 ?_
    exact yreti (updZ th k 0, pt, nn, od, li, st) S hr rfl hlk w (Or.inl ⟨rfl, k, rfl, hk6, hkP, rfl⟩) dX1_remove_18
  · skip
    refine zi_if_ne (tgt := 10) S dX1_remove_5 (by decide) (by omega) (fun c44 => absurd c44 (by omega)) (fun c44 => ?_)
    refine zi_iconst S dX1_remove_8 ?_
    exact yreti (th, pt, nn, od, li, st) S hr rfl hlk w (Or.inr ⟨rfl, hno, rfl⟩) dX1_remove_9
set_option maxHeartbeats 4000000 in
/-- change(j, r, q, t) -/
theorem mY_change (l : Launch) (th pt : Nat → Int) (nn od : Int) (li st : Nat → Int) (M : Nat) (rel len tl : Nat → Int) (hy : yOK th pt M rel len tl) (j r q t : Int) (hj0 : -2147483648 ≤ j ∧ j ≤ 2147483647) (hr0 : -2147483648 ≤ r ∧ r ≤ 2147483647) (hq0 : -2147483648 ≤ q ∧ q ≤ 2147483647) (ht0 : -2147483648 ≤ t ∧ t ≤ 2147483647) : CYi l yX1_change cX1_change 5 (some .boolean) 1 24 [.int (iI j), .int (iI r), .int (iI q), .int (iI t)] (th, pt, nn, od, li, st) (fun z (u : YS) => (z = 1 ∧ numOk r q t ∧ ∃ k : Nat, j = (k : Int) ∧ k < 6 ∧ M.testBit k = true ∧ u = (th, (updZ (updZ (updZ pt (3 * k) r) (3 * k + 1) q) (3 * k + 2) t), nn, od, li, st)) ∨ (z = 0 ∧ ¬ (numOk r q t ∧ ∃ k : Nat, j = (k : Int) ∧ k < 6 ∧ M.testBit k = true) ∧ u = (th, pt, nn, od, li, st))) (fun u => u) := by
  refine CYi.of (by decide) rfl (fun _ => Nat.le_of_ble_eq_true rfl) ?_
  intro p e s m below meth c D h g A S hr hlk w ls hl
  have hl : lv_has ls 5 [(0, .ref (h 0)), (1, .int (iI j)), (2, .int (iI r)), (3, .int (iI q)), (4, .int (iI t))] := hl
  have w : yA D h g A s s.heap th pt nn od li st s.heap [] := w
  refine lv_aload_n S.1 S.2.1 dX1_change_0 rfl (lv_at hl 0 rfl) ?_
  refine lv_iload_n S.1 S.2.1 dX1_change_1 rfl (lv_at hl 1 rfl) ?_
  refine ycalli [] S w fY_is (mY_is l th pt nn od li st M rel len tl hy j (by omega)) rfl ⟨Nat.le_of_ble_eq_true rfl, Nat.le_of_ble_eq_true rfl⟩ hl.1 (Nat.le_of_ble_eq_true rfl) rfl ⟨Nat.zero_le _, Nat.zero_le _⟩ dX1_change_2 (fun z u H locs hp w => ?_)
  have w : yA D h g A s s.heap th pt nn od li st H locs := w
  rcases hp with ⟨rfl, k, hk, hk6, hkP⟩ | ⟨rfl, hno⟩
  · subst hk
    refine zi_if_eq (tgt := 19) S dX1_change_5 (by decide) (by omega) (fun c45 => absurd c45 (by omega)) (fun c45 => ?_)
    refine lv_aload_n S.1 S.2.1 dX1_change_8 rfl (lv_at hl 0 rfl) ?_
    refine lv_iload_n S.1 S.2.1 dX1_change_9 rfl (lv_at hl 2 rfl) ?_
    refine lv_iload_n S.1 S.2.1 dX1_change_10 rfl (lv_at hl 3 rfl) ?_
    refine lv_iload S.1 S.2.1 dX1_change_11 (lv_at hl 4 rfl) ?_
    refine ycalli [] S w fY_good (mY_good l th pt nn od li st r q t (by omega) (by omega) (by omega)) rfl ⟨Nat.le_of_ble_eq_true rfl, Nat.le_of_ble_eq_true rfl⟩ hl.1 (Nat.le_of_ble_eq_true rfl) rfl ⟨Nat.zero_le _, Nat.zero_le _⟩ dX1_change_13 (fun z u H locs hp w => ?_)
    have w : yA D h g A s s.heap th pt nn od li st H locs := w
    rcases hp with ⟨rfl, hok⟩ | ⟨rfl, hok⟩
    · skip
      refine zi_if_ne (tgt := 21) S dX1_change_16 (by decide) (by omega) (fun c46 => ?_) (fun c46 => absurd c46 (by omega))
      refine lv_aload_n S.1 S.2.1 dX1_change_21 rfl (lv_at hl 0 rfl) ?_
      refine lv_iload_n S.1 S.2.1 dX1_change_22 rfl (lv_at hl 1 rfl) ?_
      refine lv_iload_n S.1 S.2.1 dX1_change_23 rfl (lv_at hl 2 rfl) ?_
      refine lv_iload_n S.1 S.2.1 dX1_change_24 rfl (lv_at hl 3 rfl) ?_
      refine lv_iload S.1 S.2.1 dX1_change_25 (lv_at hl 4 rfl) ?_
      refine ycallv [] S w fY_hold (mY_hold l th pt nn od li st k (by omega) r q t) rfl ⟨Nat.le_of_ble_eq_true rfl, Nat.le_of_ble_eq_true rfl⟩ hl.1 (Nat.le_of_ble_eq_true rfl) rfl ⟨Nat.zero_le _, Nat.zero_le _⟩ dX1_change_27 (fun u H locs hp w => ?_)
      have w : yA D h g A s s.heap th (updZ (updZ (updZ pt (3 * k) r) (3 * k + 1) q) (3 * k + 2) t) nn od li st H locs := w
      refine zi_iconst S dX1_change_30 ?_
      exact yreti (th, (updZ (updZ (updZ pt (3 * k) r) (3 * k + 1) q) (3 * k + 2) t), nn, od, li, st) S hr rfl hlk w (Or.inl ⟨rfl, hok, k, rfl, hk6, hkP, rfl⟩) dX1_change_31
    · skip
      refine zi_if_ne (tgt := 21) S dX1_change_16 (by decide) (by omega) (fun c47 => absurd c47 (by omega)) (fun c47 => ?_)
      refine zi_iconst S dX1_change_19 ?_
      exact yreti (th, pt, nn, od, li, st) S hr rfl hlk w (Or.inr ⟨rfl, fun h1 => by first | exact hok h1.1 | (obtain ⟨-, k, e1, e2, e3⟩ := h1; rw [hno k e1 e2] at e3; cases e3), rfl⟩) dX1_change_20
  · skip
    refine zi_if_eq (tgt := 19) S dX1_change_5 (by decide) (by omega) (fun c48 => ?_) (fun c48 => absurd c48 (by omega))
    refine zi_iconst S dX1_change_19 ?_
    exact yreti (th, pt, nn, od, li, st) S hr rfl hlk w (Or.inr ⟨rfl, fun h1 => by first | exact hok h1.1 | (obtain ⟨-, k, e1, e2, e3⟩ := h1; rw [hno k e1 e2] at e3; cases e3), rfl⟩) dX1_change_20
set_option maxHeartbeats 4000000 in
/-- jobs() -/
theorem mY_jobs (l : Launch) (th pt : Nat → Int) (nn od : Int) (li st : Nat → Int) (M : Nat) (rel len tl : Nat → Int) (hy : yOK th pt M rel len tl) : CYi l yX1_jobs cX1_jobs 3 (some .int) 0 0 [] (th, pt, nn, od, li, st) (fun z _ => z = (M : Int)) (fun (_ : Unit) => (th, pt, nn, od, li, st)) := by
  refine CYi.of (by decide) rfl (fun _ => Nat.le_of_ble_eq_true rfl) ?_
  intro p e s m below meth c D h g A S hr hlk w ls hl
  have hl : lv_has ls 3 [(0, .ref (h 0))] := hl
  have w : yA D h g A s s.heap th pt nn od li st s.heap [] := w
  refine zi_iconst S dX1_jobs_0 ?_
  refine lv_istore_n (lv' := [(1, .int (iI 0)), (0, .ref (h 0))]) S.1 S.2.1 dX1_jobs_1 rfl hl (by decide) rfl (fun ls hl => ?_)
  refine zi_iconst S dX1_jobs_2 ?_
  refine lv_istore_n (lv' := [(2, .int (iI 0)), (1, .int (iI 0)), (0, .ref (h 0))]) S.1 S.2.1 dX1_jobs_3 rfl hl (by decide) rfl (fun ls hl => ?_)
  refine W_loop (fun n H locs ls => ∃ k : Nat, n = 6 - k ∧ k ≤ 6 ∧ yA D h g A s s.heap th pt nn od li st H locs ∧ lv_has ls 3 [(0, .ref (h 0)), (1, .int (iI (lowM M k : Int))), (2, .int (iI (k : Int)))]) 4 ?_ 6 _ _ _ ⟨0, rfl, by omega, w, lv_sub hl [2, 1, 0] rfl⟩
  intro n H locs ls hI ih
  obtain ⟨k, hn, hk6, w, hl⟩ := hI
  refine lv_iload_n S.1 S.2.1 dX1_jobs_4 rfl (lv_at hl 2 rfl) ?_
  refine zi_bipush S dX1_jobs_5 (by decide) ?_
  refine zi_icmp_ge (tgt := 35) S dX1_jobs_7 (by decide) (by omega) (by omega) (fun c49 => ?_) (fun c49 => ?_)
  · refine lv_iload_n S.1 S.2.1 dX1_jobs_35 rfl (lv_at hl 1 rfl) ?_
    obtain rfl : k = 6 := by omega
    exact yreti () S hr rfl hlk w (by rw [lowM_6 hy.1]) dX1_jobs_36
  · refine lv_iload_n S.1 S.2.1 dX1_jobs_10 rfl (lv_at hl 1 rfl) ?_
    refine lv_aload_n S.1 S.2.1 dX1_jobs_11 rfl (lv_at hl 0 rfl) ?_
    refine yg_th S w dX1_jobs_12 ?_
    refine lv_iload_n S.1 S.2.1 dX1_jobs_15 rfl (lv_at hl 2 rfl) ?_
    refine yl_th S w k (by first | rfl | omega) (by omega) dX1_jobs_16 ?_
    rcases y_th hy (show k < 6 by omega) with ⟨eb, hb⟩ | ⟨eb, hb⟩
    · refine W_is 1 eb ?_
      refine zi_if_eq (tgt := 26) S dX1_jobs_17 (by decide) (by omega) (fun c50 => absurd c50 (by omega)) (fun c50 => ?_)
      refine zi_iconst S dX1_jobs_20 ?_
      refine lv_iload_n S.1 S.2.1 dX1_jobs_21 rfl (lv_at hl 2 rfl) ?_
      refine zi_shl1 S k (by first | rfl | omega) (by omega) dX1_jobs_22 ?_
      refine lv_goto (tgt := 27) S.1 S.2.1 dX1_jobs_23 (by decide) ?_
      refine zi_ior S (lowM M k) (2 ^ k) (by first | rfl | omega) (by first | rfl | omega) dX1_jobs_27 ?_
      refine lv_istore_n (lv' := [(1, .int (iI ((((lowM M k) ||| (2 ^ k)) : Nat) : Int))), (0, .ref (h 0)), (2, .int (iI (k : Int)))]) S.1 S.2.1 dX1_jobs_28 rfl hl (by decide) rfl (fun ls hl => ?_)
      refine lv_iinc (v := iI ((k + 1 : Nat) : Int)) (lv' := [(2, .int (iI ((k + 1 : Nat) : Int))), (1, .int (iI ((((lowM M k) ||| (2 ^ k)) : Nat) : Int))), (0, .ref (h 0))]) S.1 S.2.1 dX1_jobs_29 hl (k := 2) rfl ((iI_add _ _).trans (congrArg iI (by omega))) (by decide) rfl (fun ls hl => ?_)
      refine lv_goto (tgt := 4) S.1 S.2.1 dX1_jobs_32 (by decide) ?_
      exact ih _ _ _ _ (by omega) ⟨k + 1, rfl, by omega, w, by rw [← lowM_t hb]; exact lv_sub hl [2, 1, 0] rfl⟩
    · refine W_is 0 eb ?_
      refine zi_if_eq (tgt := 26) S dX1_jobs_17 (by decide) (by omega) (fun c51 => ?_) (fun c51 => absurd c51 (by omega))
      refine zi_iconst S dX1_jobs_26 ?_
      refine zi_ior S (lowM M k) 0 (by first | rfl | omega) (by first | rfl | omega) dX1_jobs_27 ?_
      refine lv_istore_n (lv' := [(1, .int (iI ((((lowM M k) ||| 0) : Nat) : Int))), (0, .ref (h 0)), (2, .int (iI (k : Int)))]) S.1 S.2.1 dX1_jobs_28 rfl hl (by decide) rfl (fun ls hl => ?_)
      refine lv_iinc (v := iI ((k + 1 : Nat) : Int)) (lv' := [(2, .int (iI ((k + 1 : Nat) : Int))), (1, .int (iI ((((lowM M k) ||| 0) : Nat) : Int))), (0, .ref (h 0))]) S.1 S.2.1 dX1_jobs_29 hl (k := 2) rfl ((iI_add _ _).trans (congrArg iI (by omega))) (by decide) rfl (fun ls hl => ?_)
      refine lv_goto (tgt := 4) S.1 S.2.1 dX1_jobs_32 (by decide) ?_
      exact ih _ _ _ _ (by omega) ⟨k + 1, rfl, by omega, w, by rw [← lowM_f hb]; exact lv_sub hl [2, 1, 0] rfl⟩
set_option maxHeartbeats 4000000 in
/-- part(j, t) -/
theorem mY_part (l : Launch) (th pt : Nat → Int) (nn od : Int) (li st : Nat → Int) (M : Nat) (rel len tl : Nat → Int) (hy : yOK th pt M rel len tl) (j t : Int) (hj0 : -2147483648 ≤ j ∧ j ≤ 2147483647) (ht0 : -2147483648 ≤ t ∧ t ≤ 2147483647) : CYi l yX1_part cX1_part 3 (some .int) 1 21 [.int (iI j), .int (iI t)] (th, pt, nn, od, li, st) (fun z _ => partIs M rel len tl j t z) (fun (_ : Unit) => (th, pt, nn, od, li, st)) := by
  refine CYi.of (by decide) rfl (fun _ => Nat.le_of_ble_eq_true rfl) ?_
  intro p e s m below meth c D h g A S hr hlk w ls hl
  have hl : lv_has ls 3 [(0, .ref (h 0)), (1, .int (iI j)), (2, .int (iI t))] := hl
  have w : yA D h g A s s.heap th pt nn od li st s.heap [] := w
  refine lv_aload_n S.1 S.2.1 dX1_part_0 rfl (lv_at hl 0 rfl) ?_
  refine lv_iload_n S.1 S.2.1 dX1_part_1 rfl (lv_at hl 1 rfl) ?_
  refine ycalli [] S w fY_is (mY_is l th pt nn od li st M rel len tl hy j (by omega)) rfl ⟨Nat.le_of_ble_eq_true rfl, Nat.le_of_ble_eq_true rfl⟩ hl.1 (Nat.le_of_ble_eq_true rfl) rfl ⟨Nat.zero_le _, Nat.zero_le _⟩ dX1_part_2 (fun z u H locs hp w => ?_)
  have w : yA D h g A s s.heap th pt nn od li st H locs := w
  rcases hp with ⟨rfl, k, hk, hk6, hkP⟩ | ⟨rfl, hno⟩
  · subst hk
    refine zi_if_eq (tgt := 30) S dX1_part_5 (by decide) (by omega) (fun c52 => absurd c52 (by omega)) (fun c52 => ?_)
    refine lv_iload_n S.1 S.2.1 dX1_part_8 rfl (lv_at hl 2 rfl) ?_
    refine zi_if_lt (tgt := 30) S dX1_part_9 (by decide) (by omega) (fun c53 => ?_) (fun c53 => ?_)
    · refine zi_iconst S dX1_part_30 ?_
      exact yreti () S hr rfl hlk w (Or.inr ⟨rfl, fun h1 => by first | omega | (obtain ⟨k, e1, e2, e3, -⟩ := h1; rw [hno k e1 e2] at e3; cases e3) | (obtain ⟨k, e1, e2, e3, e4⟩ := h1; omega)⟩) dX1_part_31
    · refine lv_iload_n S.1 S.2.1 dX1_part_12 rfl (lv_at hl 2 rfl) ?_
      refine zi_iconst S dX1_part_13 ?_
      refine zi_icmp_gt (tgt := 30) S dX1_part_14 (by decide) (by omega) (by omega) (fun c54 => ?_) (fun c54 => ?_)
      · refine zi_iconst S dX1_part_30 ?_
        exact yreti () S hr rfl hlk w (Or.inr ⟨rfl, fun h1 => by first | omega | (obtain ⟨k, e1, e2, e3, -⟩ := h1; rw [hno k e1 e2] at e3; cases e3) | (obtain ⟨k, e1, e2, e3, e4⟩ := h1; omega)⟩) dX1_part_31
      · obtain ⟨t2, rfl⟩ : ∃ t2 : Nat, t = (t2 : Int) := ⟨t.toNat, by omega⟩
        refine lv_aload_n S.1 S.2.1 dX1_part_17 rfl (lv_at hl 0 rfl) ?_
        refine yg_pt S w dX1_part_18 ?_
        refine zi_iconst S dX1_part_21 ?_
        refine lv_iload_n S.1 S.2.1 dX1_part_22 rfl (lv_at hl 1 rfl) ?_
        refine zi_imul S dX1_part_23 ?_
        refine lv_iload_n S.1 S.2.1 dX1_part_24 rfl (lv_at hl 2 rfl) ?_
        refine zi_iadd S dX1_part_25 ?_
        refine yl_pt S w ((3 * k) + t2) (by first | rfl | omega) (by omega) dX1_part_26 ?_
        refine lv_goto (tgt := 31) S.1 S.2.1 dX1_part_27 (by decide) ?_
        obtain ⟨g0, g1, g2⟩ := hy.2.2 k hk6
        have ht2 : t2 = 0 ∨ t2 = 1 ∨ t2 = 2 := by omega
        exact yreti () S hr rfl hlk w (Or.inl ⟨k, rfl, hk6, hkP, by rcases ht2 with q | q | q <;> subst q <;> first | exact Or.inl ⟨rfl, g0⟩ | exact Or.inr (Or.inl ⟨rfl, g1⟩) | exact Or.inr (Or.inr ⟨rfl, g2⟩)⟩) dX1_part_31
  · skip
    refine zi_if_eq (tgt := 30) S dX1_part_5 (by decide) (by omega) (fun c55 => ?_) (fun c55 => absurd c55 (by omega))
    refine zi_iconst S dX1_part_30 ?_
    exact yreti () S hr rfl hlk w (Or.inr ⟨rfl, fun h1 => by first | omega | (obtain ⟨k, e1, e2, e3, -⟩ := h1; rw [hno k e1 e2] at e3; cases e3) | (obtain ⟨k, e1, e2, e3, e4⟩ := h1; omega)⟩) dX1_part_31
set_option maxHeartbeats 4000000 in
/-- count() -/
theorem mY_count (l : Launch) (th pt : Nat → Int) (nn od : Int) (li st : Nat → Int) (M : Nat) (rel len tl : Nat → Int) (hy : yOK th pt M rel len tl) : CYv l yX1_count cX1_count 2 0 0 [] (th, pt, nn, od, li, st) (fun _ => True) (fun (_ : Unit) => (th, pt, (cnt M : Int), (fact (cnt M) : Int), li, st)) := by
  refine CYv.of (by decide) rfl (fun _ => Nat.le_of_ble_eq_true rfl) ?_
  intro p e s m below meth c D h g A S hr hlk w ls hl
  have hl : lv_has ls 2 [(0, .ref (h 0))] := hl
  have w : yA D h g A s s.heap th pt nn od li st s.heap [] := w
  refine lv_aload_n S.1 S.2.1 dX1_count_0 rfl (lv_at hl 0 rfl) ?_
  refine zi_iconst S dX1_count_1 ?_
  refine yp_nn S w dX1_count_2 (fun H locs w => ?_)
  refine lv_aload_n S.1 S.2.1 dX1_count_5 rfl (lv_at hl 0 rfl) ?_
  refine zi_iconst S dX1_count_6 ?_
  refine yp_od S w dX1_count_7 (fun H locs w => ?_)
  refine zi_iconst S dX1_count_10 ?_
  refine lv_istore_n (lv' := [(1, .int (iI 0)), (0, .ref (h 0))]) S.1 S.2.1 dX1_count_11 rfl hl (by decide) rfl (fun ls hl => ?_)
  refine W_loop (fun n H locs ls => ∃ k : Nat, n = 6 - k ∧ k ≤ 6 ∧ yA D h g A s s.heap th pt (fb_ct M.testBit k : Int) (fact (fb_ct M.testBit k) : Int) li st H locs ∧ lv_has ls 2 [(0, .ref (h 0)), (1, .int (iI (k : Int)))]) 12 ?_ 6 _ _ _ ⟨0, rfl, by omega, w, lv_sub hl [1, 0] rfl⟩
  intro n H locs ls hI ih
  obtain ⟨k, hn, hk6, w, hl⟩ := hI
  refine lv_iload_n S.1 S.2.1 dX1_count_12 rfl (lv_at hl 1 rfl) ?_
  refine zi_bipush S dX1_count_13 (by decide) ?_
  refine zi_icmp_ge (tgt := 76) S dX1_count_15 (by decide) (by omega) (by omega) (fun c56 => ?_) (fun c56 => ?_)
  · obtain rfl : k = 6 := by omega
    exact yretv () S hr hlk w trivial dX1_count_76
  · refine lv_aload_n S.1 S.2.1 dX1_count_18 rfl (lv_at hl 0 rfl) ?_
    refine lv_aload_n S.1 S.2.1 dX1_count_19 rfl (lv_at hl 0 rfl) ?_
    refine yg_nn S w dX1_count_20 ?_
    refine lv_aload_n S.1 S.2.1 dX1_count_23 rfl (lv_at hl 0 rfl) ?_
    refine yg_th S w dX1_count_24 ?_
    refine lv_iload_n S.1 S.2.1 dX1_count_27 rfl (lv_at hl 1 rfl) ?_
    refine yl_th S w k (by first | rfl | omega) (by omega) dX1_count_28 ?_
    rcases y_th hy (show k < 6 by omega) with ⟨eb, hb⟩ | ⟨eb, hb⟩
    · refine W_is 1 eb ?_
      refine zi_if_eq (tgt := 36) S dX1_count_29 (by decide) (by omega) (fun c57 => absurd c57 (by omega)) (fun c57 => ?_)
      refine zi_iconst S dX1_count_32 ?_
      refine lv_goto (tgt := 37) S.1 S.2.1 dX1_count_33 (by decide) ?_
      refine zi_iadd S dX1_count_37 ?_
      refine W_is (((fb_ct M.testBit k + 1) : Nat) : Int) (by omega) ?_
      refine yp_nn S w dX1_count_38 (fun H locs w => ?_)
      refine lv_aload_n S.1 S.2.1 dX1_count_41 rfl (lv_at hl 0 rfl) ?_
      refine lv_aload_n S.1 S.2.1 dX1_count_42 rfl (lv_at hl 0 rfl) ?_
      refine yg_th S w dX1_count_43 ?_
      refine lv_iload_n S.1 S.2.1 dX1_count_46 rfl (lv_at hl 1 rfl) ?_
      refine yl_th S w k (by first | rfl | omega) (by omega) dX1_count_47 ?_
      refine W_is 1 eb ?_
      refine zi_if_eq (tgt := 63) S dX1_count_48 (by decide) (by omega) (fun c58 => absurd c58 (by omega)) (fun c58 => ?_)
      refine lv_aload_n S.1 S.2.1 dX1_count_51 rfl (lv_at hl 0 rfl) ?_
      refine yg_od S w dX1_count_52 ?_
      refine lv_aload_n S.1 S.2.1 dX1_count_55 rfl (lv_at hl 0 rfl) ?_
      refine yg_nn S w dX1_count_56 ?_
      refine zi_imul S dX1_count_59 ?_
      refine lv_goto (tgt := 67) S.1 S.2.1 dX1_count_60 (by decide) ?_
      refine W_is (((fact (fb_ct M.testBit k) * (fb_ct M.testBit k + 1)) : Nat) : Int) (Int.natCast_mul _ _).symm ?_
      refine yp_od S w dX1_count_67 (fun H locs w => ?_)
      refine lv_iinc (v := iI ((k + 1 : Nat) : Int)) (lv' := [(1, .int (iI ((k + 1 : Nat) : Int))), (0, .ref (h 0))]) S.1 S.2.1 dX1_count_70 hl (k := 1) rfl ((iI_add _ _).trans (congrArg iI (by omega))) (by decide) rfl (fun ls hl => ?_)
      refine lv_goto (tgt := 12) S.1 S.2.1 dX1_count_73 (by decide) ?_
      have w : yA D h g A s s.heap th pt (fb_ct M.testBit (k + 1) : Int) (fact (fb_ct M.testBit (k + 1)) : Int) li st H locs := by
        rw [ct_b hb, show fact (fb_ct M.testBit k + 1) = fact (fb_ct M.testBit k) * (fb_ct M.testBit k + 1) from rfl]
        exact w
      exact ih _ _ _ _ (by omega) ⟨k + 1, rfl, by omega, w, lv_sub hl [1, 0] rfl⟩
    · refine W_is 0 eb ?_
      refine zi_if_eq (tgt := 36) S dX1_count_29 (by decide) (by omega) (fun c59 => ?_) (fun c59 => absurd c59 (by omega))
      refine zi_iconst S dX1_count_36 ?_
      refine zi_iadd S dX1_count_37 ?_
      refine W_is (((fb_ct M.testBit k) : Nat) : Int) (by omega) ?_
      refine yp_nn S w dX1_count_38 (fun H locs w => ?_)
      refine lv_aload_n S.1 S.2.1 dX1_count_41 rfl (lv_at hl 0 rfl) ?_
      refine lv_aload_n S.1 S.2.1 dX1_count_42 rfl (lv_at hl 0 rfl) ?_
      refine yg_th S w dX1_count_43 ?_
      refine lv_iload_n S.1 S.2.1 dX1_count_46 rfl (lv_at hl 1 rfl) ?_
      refine yl_th S w k (by first | rfl | omega) (by omega) dX1_count_47 ?_
      refine W_is 0 eb ?_
      refine zi_if_eq (tgt := 63) S dX1_count_48 (by decide) (by omega) (fun c60 => ?_) (fun c60 => absurd c60 (by omega))
      refine lv_aload_n S.1 S.2.1 dX1_count_63 rfl (lv_at hl 0 rfl) ?_
      refine yg_od S w dX1_count_64 ?_
      refine yp_od S w dX1_count_67 (fun H locs w => ?_)
      refine lv_iinc (v := iI ((k + 1 : Nat) : Int)) (lv' := [(1, .int (iI ((k + 1 : Nat) : Int))), (0, .ref (h 0))]) S.1 S.2.1 dX1_count_70 hl (k := 1) rfl ((iI_add _ _).trans (congrArg iI (by omega))) (by decide) rfl (fun ls hl => ?_)
      refine lv_goto (tgt := 12) S.1 S.2.1 dX1_count_73 (by decide) ?_
      have w : yA D h g A s s.heap th pt (fb_ct M.testBit (k + 1) : Int) (fact (fb_ct M.testBit (k + 1)) : Int) li st H locs := by
        rw [ct_n hb]
        exact w
      exact ih _ _ _ _ (by omega) ⟨k + 1, rfl, by omega, w, lv_sub hl [1, 0] rfl⟩
set_option maxHeartbeats 4000000 in
/-- nth(R, sk) -/
theorem mY_nth (l : Launch) (th pt : Nat → Int) (nn od : Int) (li st : Nat → Int) (R sk : Nat) (hR : R < 64) (hsk : sk < cnt R) : CYi l yX1_nth cX1_nth 5 (some .int) 0 0 [.int (iI (R : Int)), .int (iI (sk : Int))] (th, pt, nn, od, li, st) (fun z _ => z = (kth R sk : Int)) (fun (_ : Unit) => (th, pt, nn, od, li, st)) := by
  refine CYi.of (by decide) rfl (fun _ => Nat.le_of_ble_eq_true rfl) ?_
  intro p e s m below meth c D h g A S hr hlk w ls hl
  have hl : lv_has ls 5 [(0, .ref (h 0)), (1, .int (iI (R : Int))), (2, .int (iI (sk : Int)))] := hl
  have w : yA D h g A s s.heap th pt nn od li st s.heap [] := w
  have hc6 := cnt_le R
  refine zi_iconst S dX1_nth_0 ?_
  refine lv_istore_n (lv' := [(3, .int (iI 0)), (0, .ref (h 0)), (1, .int (iI (R : Int))), (2, .int (iI (sk : Int)))]) S.1 S.2.1 dX1_nth_1 rfl hl (by decide) rfl (fun ls hl => ?_)
  refine zi_iconst S dX1_nth_2 ?_
  refine lv_istore (lv' := [(4, .int (iI 0)), (3, .int (iI 0)), (0, .ref (h 0)), (1, .int (iI (R : Int))), (2, .int (iI (sk : Int)))]) S.1 S.2.1 dX1_nth_3 hl (by decide) rfl (fun ls hl => ?_)
  refine W_loop (fun n H locs ls => ∃ k : Nat, n = 6 - k ∧ k ≤ 6 ∧ (∀ i, i < k → ¬ (R.testBit i = true ∧ fb_ct R.testBit i = sk)) ∧ yA D h g A s s.heap th pt nn od li st H locs ∧ lv_has ls 5 [(0, .ref (h 0)), (1, .int (iI (R : Int))), (2, .int (iI (sk : Int))), (3, .int (iI (fb_ct R.testBit k : Int))), (4, .int (iI (k : Int)))]) 5 ?_ 6 _ _ _ ⟨0, rfl, by omega, fun i hi => absurd hi (by omega), w, lv_sub hl [2, 3, 4, 1, 0] rfl⟩
  intro n H locs ls hI ih
  obtain ⟨k, hn, hk6, hall, w, hl⟩ := hI
  have hctk := fb_ct_le R.testBit k
  refine lv_iload S.1 S.2.1 dX1_nth_5 (lv_at hl 4 rfl) ?_
  refine zi_bipush S dX1_nth_7 (by decide) ?_
  refine zi_icmp_ge (tgt := 39) S dX1_nth_9 (by decide) (by omega) (by omega) (fun c61 => ?_) (fun c61 => ?_)
  · exfalso
    obtain ⟨i, h1, h2, h3⟩ := fb_ct_kth (p := R.testBit) (n := 6) hsk
    exact hall i (by omega) ⟨h2, h3⟩
  · refine lv_iload_n S.1 S.2.1 dX1_nth_12 rfl (lv_at hl 1 rfl) ?_
    refine lv_iload S.1 S.2.1 dX1_nth_13 (lv_at hl 4 rfl) ?_
    refine zi_bit S R k (by first | rfl | omega) (by first | rfl | omega) (by omega) (by omega) dX1_nth_15 dX1_nth_16 dX1_nth_17 ?_
    refine zi_iconst S dX1_nth_18 ?_
    have hbz := bz_r R k
    refine zi_icmp_ne (tgt := 33) S dX1_nth_19 (by decide) (by omega) (by omega) (fun c62 => ?_) (fun c62 => ?_)
    · have c62 : (R).testBit k = false := bz_n1 c62
      have hb := c62
      refine lv_iinc (v := iI ((k + 1 : Nat) : Int)) (lv' := [(4, .int (iI ((k + 1 : Nat) : Int))), (0, .ref (h 0)), (1, .int (iI (R : Int))), (2, .int (iI (sk : Int))), (3, .int (iI ((fb_ct R.testBit k) : Int)))]) S.1 S.2.1 dX1_nth_33 hl (k := 4) rfl ((iI_add _ _).trans (congrArg iI (by omega))) (by decide) rfl (fun ls hl => ?_)
      refine lv_goto (tgt := 5) S.1 S.2.1 dX1_nth_36 (by decide) ?_
      have hl : lv_has ls 5 [(0, .ref (h 0)), (1, .int (iI (R : Int))), (2, .int (iI (sk : Int))), (3, .int (iI (fb_ct R.testBit (k + 1) : Int))), (4, .int (iI ((k + 1 : Nat) : Int)))] := by rw [ct_n hb]; exact lv_sub hl [1, 2, 3, 4, 0] rfl
      exact ih _ _ _ _ (by omega) ⟨k + 1, rfl, by omega, lt_s hall (fun q => by rw [hb] at q; cases q.1), w, hl⟩
    · have c62 : (R).testBit k = true := bz_1.mp c62
      have hb := c62
      refine lv_iload_n S.1 S.2.1 dX1_nth_22 rfl (lv_at hl 3 rfl) ?_
      refine lv_iload_n S.1 S.2.1 dX1_nth_23 rfl (lv_at hl 2 rfl) ?_
      refine zi_icmp_ne (tgt := 30) S dX1_nth_24 (by decide) (by omega) (by omega) (fun c63 => ?_) (fun c63 => ?_)
      · refine lv_iinc (v := iI (((fb_ct R.testBit k) + 1 : Nat) : Int)) (lv' := [(3, .int (iI (((fb_ct R.testBit k) + 1 : Nat) : Int))), (0, .ref (h 0)), (1, .int (iI (R : Int))), (2, .int (iI (sk : Int))), (4, .int (iI (k : Int)))]) S.1 S.2.1 dX1_nth_30 hl (k := 3) rfl ((iI_add _ _).trans (congrArg iI (by omega))) (by decide) rfl (fun ls hl => ?_)
        refine lv_iinc (v := iI ((k + 1 : Nat) : Int)) (lv' := [(4, .int (iI ((k + 1 : Nat) : Int))), (3, .int (iI (((fb_ct R.testBit k) + 1 : Nat) : Int))), (0, .ref (h 0)), (1, .int (iI (R : Int))), (2, .int (iI (sk : Int)))]) S.1 S.2.1 dX1_nth_33 hl (k := 4) rfl ((iI_add _ _).trans (congrArg iI (by omega))) (by decide) rfl (fun ls hl => ?_)
        refine lv_goto (tgt := 5) S.1 S.2.1 dX1_nth_36 (by decide) ?_
        have hl : lv_has ls 5 [(0, .ref (h 0)), (1, .int (iI (R : Int))), (2, .int (iI (sk : Int))), (3, .int (iI (fb_ct R.testBit (k + 1) : Int))), (4, .int (iI ((k + 1 : Nat) : Int)))] := by rw [ct_b hb]; exact lv_sub hl [2, 3, 4, 1, 0] rfl
        exact ih _ _ _ _ (by omega) ⟨k + 1, rfl, by omega, lt_s hall (fun q => c63 (by omega)), w, hl⟩
      · refine lv_iload S.1 S.2.1 dX1_nth_27 (lv_at hl 4 rfl) ?_
        exact yreti () S hr rfl hlk w (by rw [kth_one (by omega) hb (by omega : fb_ct R.testBit k = sk)]) dX1_nth_29
set_option maxHeartbeats 4000000 in
/-- place(j) -/
theorem mY_place (l : Launch) (th pt : Nat → Int) (od : Int) (li st : Nat → Int) (n : Nat) (hn : n ≤ 6) (hli : ∀ i, i < n → 0 ≤ li i ∧ li i ≤ 5) (j : Int) (hj : 0 ≤ j ∧ j ≤ 5) : CYi l yX1_place cX1_place 4 (some .int) 0 0 [.int (iI j)] (th, pt, (n : Int), od, li, st) (fun z _ => plIs n li j z) (fun (_ : Unit) => (th, pt, (n : Int), od, li, st)) := by
  refine CYi.of (by decide) rfl (fun _ => Nat.le_of_ble_eq_true rfl) ?_
  intro p e s m below meth c D h g A S hr hlk w ls hl
  have hl : lv_has ls 4 [(0, .ref (h 0)), (1, .int (iI j))] := hl
  have w : yA D h g A s s.heap th pt (n : Int) od li st s.heap [] := w
  refine zi_bipush S dX1_place_0 (by decide) ?_
  refine lv_istore_n (lv' := [(2, .int (iI 6)), (0, .ref (h 0)), (1, .int (iI j))]) S.1 S.2.1 dX1_place_2 rfl hl (by decide) rfl (fun ls hl => ?_)
  refine zi_iconst S dX1_place_3 ?_
  refine lv_istore_n (lv' := [(3, .int (iI 0)), (2, .int (iI 6)), (0, .ref (h 0)), (1, .int (iI j))]) S.1 S.2.1 dX1_place_4 rfl hl (by decide) rfl (fun ls hl => ?_)
  refine W_loop (fun n2 H locs ls => ∃ (k : Nat) (z : Int), n2 = n - k ∧ k ≤ n ∧ plIs k li j z ∧ yA D h g A s s.heap th pt (n : Int) od li st H locs ∧ lv_has ls 4 [(0, .ref (h 0)), (1, .int (iI j)), (2, .int (iI z)), (3, .int (iI (k : Int)))]) 5 ?_ n _ _ _ ⟨0, 6, rfl, by omega, Or.inl ⟨rfl, fun i hi => absurd hi (by omega)⟩, w, lv_sub hl [2, 3, 1, 0] rfl⟩
  intro n2 H locs ls hI ih
  obtain ⟨k, z, hn2, hkn, hpl, w, hl⟩ := hI
  refine lv_iload_n S.1 S.2.1 dX1_place_5 rfl (lv_at hl 3 rfl) ?_
  refine lv_aload_n S.1 S.2.1 dX1_place_6 rfl (lv_at hl 0 rfl) ?_
  refine yg_nn S w dX1_place_7 ?_
  refine zi_icmp_ge (tgt := 35) S dX1_place_10 (by decide) (by omega) (by omega) (fun c64 => ?_) (fun c64 => ?_)
  · refine lv_iload_n S.1 S.2.1 dX1_place_35 rfl (lv_at hl 2 rfl) ?_
    obtain rfl : k = n := by omega
    exact yreti () S hr rfl hlk w hpl dX1_place_36
  · have hlik := hli k (by omega)
    refine lv_aload_n S.1 S.2.1 dX1_place_13 rfl (lv_at hl 0 rfl) ?_
    refine yg_li S w dX1_place_14 ?_
    refine lv_iload_n S.1 S.2.1 dX1_place_17 rfl (lv_at hl 3 rfl) ?_
    refine yl_li S w k (by first | rfl | omega) (by omega) dX1_place_18 ?_
    refine lv_iload_n S.1 S.2.1 dX1_place_19 rfl (lv_at hl 1 rfl) ?_
    refine zi_icmp_ne (tgt := 27) S dX1_place_20 (by decide) (by omega) (by omega) (fun c65 => ?_) (fun c65 => ?_)
    · refine lv_iload_n S.1 S.2.1 dX1_place_27 rfl (lv_at hl 2 rfl) ?_
      refine lv_istore_n (lv' := [(2, .int (iI z)), (0, .ref (h 0)), (1, .int (iI j)), (3, .int (iI (k : Int)))]) S.1 S.2.1 dX1_place_28 rfl hl (by decide) rfl (fun ls hl => ?_)
      refine lv_iinc (v := iI ((k + 1 : Nat) : Int)) (lv' := [(3, .int (iI ((k + 1 : Nat) : Int))), (2, .int (iI z)), (0, .ref (h 0)), (1, .int (iI j))]) S.1 S.2.1 dX1_place_29 hl (k := 3) rfl ((iI_add _ _).trans (congrArg iI (by omega))) (by decide) rfl (fun ls hl => ?_)
      refine lv_goto (tgt := 5) S.1 S.2.1 dX1_place_32 (by decide) ?_
      exact ih _ _ _ _ (by omega) ⟨k + 1, z, rfl, by omega, pl_no hpl c65, w, lv_sub hl [2, 3, 1, 0] rfl⟩
    · refine lv_iload_n S.1 S.2.1 dX1_place_23 rfl (lv_at hl 3 rfl) ?_
      refine lv_goto (tgt := 28) S.1 S.2.1 dX1_place_24 (by decide) ?_
      refine lv_istore_n (lv' := [(2, .int (iI (k : Int))), (0, .ref (h 0)), (1, .int (iI j)), (3, .int (iI (k : Int)))]) S.1 S.2.1 dX1_place_28 rfl hl (by decide) rfl (fun ls hl => ?_)
      refine lv_iinc (v := iI ((k + 1 : Nat) : Int)) (lv' := [(3, .int (iI ((k + 1 : Nat) : Int))), (2, .int (iI (k : Int))), (0, .ref (h 0)), (1, .int (iI j))]) S.1 S.2.1 dX1_place_29 hl (k := 3) rfl ((iI_add _ _).trans (congrArg iI (by omega))) (by decide) rfl (fun ls hl => ?_)
      refine lv_goto (tgt := 5) S.1 S.2.1 dX1_place_32 (by decide) ?_
      exact ih _ _ _ _ (by omega) ⟨k + 1, (k : Int), rfl, by omega, pl_yes hpl c65, w, lv_sub hl [2, 3, 1, 0] rfl⟩
set_option maxHeartbeats 4000000 in
/-- bound(R) -/
theorem mY_bound (l : Launch) (th pt : Nat → Int) (nn od : Int) (li st : Nat → Int) (M : Nat) (rel len tl : Nat → Int) (hy : yOK th pt M rel len tl) (hd : dOK rel len tl) (h40 : ∀ j, j < 6 → rel j ≤ 40 ∧ tl j ≤ 40) (R : Nat) (hR : R < 64) : CYi l yX1_bound cX1_bound 6 (some .int) 0 0 [.int (iI (R : Int))] (th, pt, nn, od, li, st) (fun z _ => bdIs rel len tl R z ∧ 0 ≤ z ∧ z ≤ 1000) (fun (_ : Unit) => (th, pt, nn, od, li, st)) := by
  refine CYi.of (by decide) rfl (fun _ => Nat.le_of_ble_eq_true rfl) ?_
  intro p e s m below meth c D h g A S hr hlk w ls hl
  have hl : lv_has ls 6 [(0, .ref (h 0)), (1, .int (iI (R : Int)))] := hl
  have w : yA D h g A s s.heap th pt nn od li st s.heap [] := w
  refine zi_bipush S dX1_bound_0 (by decide) ?_
  refine lv_istore_n (lv' := [(2, .int (iI 100)), (0, .ref (h 0)), (1, .int (iI (R : Int)))]) S.1 S.2.1 dX1_bound_2 rfl hl (by decide) rfl (fun ls hl => ?_)
  refine zi_iconst S dX1_bound_3 ?_
  refine lv_istore_n (lv' := [(3, .int (iI 0)), (2, .int (iI 100)), (0, .ref (h 0)), (1, .int (iI (R : Int)))]) S.1 S.2.1 dX1_bound_4 rfl hl (by decide) rfl (fun ls hl => ?_)
  refine zi_bipush S dX1_bound_5 (by decide) ?_
  refine lv_istore (lv' := [(4, .int (iI 100)), (3, .int (iI 0)), (2, .int (iI 100)), (0, .ref (h 0)), (1, .int (iI (R : Int)))]) S.1 S.2.1 dX1_bound_7 hl (by decide) rfl (fun ls hl => ?_)
  refine zi_iconst S dX1_bound_9 ?_
  refine lv_istore (lv' := [(5, .int (iI 0)), (4, .int (iI 100)), (3, .int (iI 0)), (2, .int (iI 100)), (0, .ref (h 0)), (1, .int (iI (R : Int)))]) S.1 S.2.1 dX1_bound_10 hl (by decide) rfl (fun ls hl => ?_)
  refine W_loop (fun n2 H locs ls => ∃ (k : Nat) (r q : Int), n2 = 6 - k ∧ k ≤ 6 ∧ mnInv rel R k r ∧ mnInv tl R k q ∧ (0 ≤ r ∧ r ≤ 100) ∧ (0 ≤ q ∧ q ≤ 100) ∧ (0 ≤ smR len R k ∧ smR len R k ≤ 12 * k) ∧ yA D h g A s s.heap th pt nn od li st H locs ∧ lv_has ls 6 [(0, .ref (h 0)), (1, .int (iI (R : Int))), (2, .int (iI r)), (3, .int (iI (smR len R k))), (4, .int (iI q)), (5, .int (iI (k : Int)))]) 12 ?_ 6 _ _ _ ⟨0, 100, 100, rfl, by omega, ⟨fun i hi => absurd hi (by omega), Or.inl rfl⟩, ⟨fun i hi => absurd hi (by omega), Or.inl rfl⟩, by omega, by omega, by show (0 : Int) ≤ 0 ∧ (0 : Int) ≤ 12 * ((0 : Nat) : Int); omega, w, lv_sub hl [4, 5, 3, 2, 1, 0] rfl⟩
  intro n2 H locs ls hI ih
  obtain ⟨k, r, q, hn2, hk6, hmr, hmq, hr1, hq1, hsm, w, hl⟩ := hI
  refine lv_iload S.1 S.2.1 dX1_bound_12 (lv_at hl 5 rfl) ?_
  refine zi_bipush S dX1_bound_14 (by decide) ?_
  refine zi_icmp_ge (tgt := 110) S dX1_bound_16 (by decide) (by omega) (by omega) (fun c66 => ?_) (fun c66 => ?_)
  · refine lv_iload_n S.1 S.2.1 dX1_bound_110 rfl (lv_at hl 2 rfl) ?_
    refine lv_iload_n S.1 S.2.1 dX1_bound_111 rfl (lv_at hl 3 rfl) ?_
    refine zi_iadd S dX1_bound_112 ?_
    refine lv_iload S.1 S.2.1 dX1_bound_113 (lv_at hl 4 rfl) ?_
    refine zi_iadd S dX1_bound_115 ?_
    obtain rfl : k = 6 := by omega
    exact yreti () S hr rfl hlk w ⟨⟨r, q, hmr, hmq, rfl⟩, by omega, by omega⟩ dX1_bound_116
  · refine lv_iload_n S.1 S.2.1 dX1_bound_19 rfl (lv_at hl 1 rfl) ?_
    refine lv_iload S.1 S.2.1 dX1_bound_20 (lv_at hl 5 rfl) ?_
    refine zi_bit S R k (by first | rfl | omega) (by first | rfl | omega) (by omega) (by omega) dX1_bound_22 dX1_bound_23 dX1_bound_24 ?_
    refine zi_iconst S dX1_bound_25 ?_
    have hbz := bz_r R k
    refine zi_icmp_ne (tgt := 104) S dX1_bound_26 (by decide) (by omega) (by omega) (fun c67 => ?_) (fun c67 => ?_)
    · have c67 : (R).testBit k = false := bz_n1 c67
      have hb := c67
      refine lv_iinc (v := iI ((k + 1 : Nat) : Int)) (lv' := [(5, .int (iI ((k + 1 : Nat) : Int))), (0, .ref (h 0)), (1, .int (iI (R : Int))), (2, .int (iI r)), (3, .int (iI (smR len R k))), (4, .int (iI q))]) S.1 S.2.1 dX1_bound_104 hl (k := 5) rfl ((iI_add _ _).trans (congrArg iI (by omega))) (by decide) rfl (fun ls hl => ?_)
      refine lv_goto (tgt := 12) S.1 S.2.1 dX1_bound_107 (by decide) ?_
      have hl : lv_has ls 6 [(0, .ref (h 0)), (1, .int (iI (R : Int))), (2, .int (iI r)), (3, .int (iI (smR len R (k + 1)))), (4, .int (iI q)), (5, .int (iI ((k + 1 : Nat) : Int)))] := by rw [sm_f hb]; exact lv_sub hl [1, 2, 3, 4, 5, 0] rfl
      exact ih _ _ _ _ (by omega) ⟨k + 1, r, q, rfl, by omega, mn_no hmr (Or.inl hb), mn_no hmq (Or.inl hb), by omega, by omega, by rw [sm_f hb]; omega, w, hl⟩
    · have c67 : (R).testBit k = true := bz_1.mp c67
      have hb := c67
      obtain ⟨g0, g1, g2⟩ := hy.2.2 k (by omega)
      have hdk := hd k (by omega)
      have hrk := h40 k (by omega)
      refine lv_aload_n S.1 S.2.1 dX1_bound_29 rfl (lv_at hl 0 rfl) ?_
      refine yg_pt S w dX1_bound_30 ?_
      refine zi_iconst S dX1_bound_33 ?_
      refine lv_iload S.1 S.2.1 dX1_bound_34 (lv_at hl 5 rfl) ?_
      refine zi_imul S dX1_bound_36 ?_
      refine yl_pt S w (3 * k) (by first | rfl | omega) (by omega) dX1_bound_37 ?_
      refine W_is (rel k) (g0) ?_
      refine lv_iload_n S.1 S.2.1 dX1_bound_38 rfl (lv_at hl 2 rfl) ?_
      refine zi_icmp_ge (tgt := 54) S dX1_bound_39 (by decide) (by omega) (by omega) (fun c68 => ?_) (fun c68 => ?_)
      · refine lv_iload_n S.1 S.2.1 dX1_bound_54 rfl (lv_at hl 2 rfl) ?_
        refine lv_istore_n (lv' := [(2, .int (iI r)), (0, .ref (h 0)), (1, .int (iI (R : Int))), (3, .int (iI (smR len R k))), (4, .int (iI q)), (5, .int (iI (k : Int)))]) S.1 S.2.1 dX1_bound_55 rfl hl (by decide) rfl (fun ls hl => ?_)
        refine lv_iload_n S.1 S.2.1 dX1_bound_56 rfl (lv_at hl 3 rfl) ?_
        refine lv_aload_n S.1 S.2.1 dX1_bound_57 rfl (lv_at hl 1 rfl) ?_
        refine yg_pt S w dX1_bound_58 ?_
        refine zi_iconst S dX1_bound_61 ?_
        refine lv_iload S.1 S.2.1 dX1_bound_62 (lv_at hl 5 rfl) ?_
        refine zi_imul S dX1_bound_64 ?_
        refine zi_iconst S dX1_bound_65 ?_
        refine zi_iadd S dX1_bound_66 ?_
        refine yl_pt S w ((3 * k) + 1) (by first | rfl | omega) (by omega) dX1_bound_67 ?_
        refine W_is (len k) (g1) ?_
        refine zi_iadd S dX1_bound_68 ?_
        refine lv_istore_n (lv' := [(3, .int (iI ((smR len R k) + (len k)))), (2, .int (iI r)), (0, .ref (h 0)), (1, .int (iI (R : Int))), (4, .int (iI q)), (5, .int (iI (k : Int)))]) S.1 S.2.1 dX1_bound_69 rfl hl (by decide) rfl (fun ls hl => ?_)
        refine lv_aload_n S.1 S.2.1 dX1_bound_70 rfl (lv_at hl 2 rfl) ?_
        refine yg_pt S w dX1_bound_71 ?_
        refine zi_iconst S dX1_bound_74 ?_
        refine lv_iload S.1 S.2.1 dX1_bound_75 (lv_at hl 5 rfl) ?_
        refine zi_imul S dX1_bound_77 ?_
        refine zi_iconst S dX1_bound_78 ?_
        refine zi_iadd S dX1_bound_79 ?_
        refine yl_pt S w ((3 * k) + 2) (by first | rfl | omega) (by omega) dX1_bound_80 ?_
        refine W_is (tl k) (g2) ?_
        refine lv_iload S.1 S.2.1 dX1_bound_81 (lv_at hl 4 rfl) ?_
        refine zi_icmp_ge (tgt := 100) S dX1_bound_83 (by decide) (by omega) (by omega) (fun c69 => ?_) (fun c69 => ?_)
        · refine lv_iload S.1 S.2.1 dX1_bound_100 (lv_at hl 4 rfl) ?_
          refine lv_istore (lv' := [(4, .int (iI q)), (3, .int (iI ((smR len R k) + (len k)))), (2, .int (iI r)), (0, .ref (h 0)), (1, .int (iI (R : Int))), (5, .int (iI (k : Int)))]) S.1 S.2.1 dX1_bound_102 hl (by decide) rfl (fun ls hl => ?_)
          refine lv_iinc (v := iI ((k + 1 : Nat) : Int)) (lv' := [(5, .int (iI ((k + 1 : Nat) : Int))), (4, .int (iI q)), (3, .int (iI ((smR len R k) + (len k)))), (2, .int (iI r)), (0, .ref (h 0)), (1, .int (iI (R : Int)))]) S.1 S.2.1 dX1_bound_104 hl (k := 5) rfl ((iI_add _ _).trans (congrArg iI (by omega))) (by decide) rfl (fun ls hl => ?_)
          refine lv_goto (tgt := 12) S.1 S.2.1 dX1_bound_107 (by decide) ?_
          have hl : lv_has ls 6 [(0, .ref (h 0)), (1, .int (iI (R : Int))), (2, .int (iI r)), (3, .int (iI (smR len R (k + 1)))), (4, .int (iI q)), (5, .int (iI ((k + 1 : Nat) : Int)))] := by rw [sm_t hb]; exact lv_sub hl [4, 5, 3, 2, 1, 0] rfl
          exact ih _ _ _ _ (by omega) ⟨k + 1, r, q, rfl, by omega, mn_no hmr (Or.inr c68), mn_no hmq (Or.inr c69), by omega, by omega, by rw [sm_t hb]; omega, w, hl⟩
        · refine lv_aload_n S.1 S.2.1 dX1_bound_86 rfl (lv_at hl 2 rfl) ?_
          refine yg_pt S w dX1_bound_87 ?_
          refine zi_iconst S dX1_bound_90 ?_
          refine lv_iload S.1 S.2.1 dX1_bound_91 (lv_at hl 5 rfl) ?_
          refine zi_imul S dX1_bound_93 ?_
          refine zi_iconst S dX1_bound_94 ?_
          refine zi_iadd S dX1_bound_95 ?_
          refine yl_pt S w ((3 * k) + 2) (by first | rfl | omega) (by omega) dX1_bound_96 ?_
          refine W_is (tl k) (g2) ?_
          refine lv_goto (tgt := 102) S.1 S.2.1 dX1_bound_97 (by decide) ?_
          refine lv_istore (lv' := [(4, .int (iI (tl k))), (3, .int (iI ((smR len R k) + (len k)))), (2, .int (iI r)), (0, .ref (h 0)), (1, .int (iI (R : Int))), (5, .int (iI (k : Int)))]) S.1 S.2.1 dX1_bound_102 hl (by decide) rfl (fun ls hl => ?_)
          refine lv_iinc (v := iI ((k + 1 : Nat) : Int)) (lv' := [(5, .int (iI ((k + 1 : Nat) : Int))), (4, .int (iI (tl k))), (3, .int (iI ((smR len R k) + (len k)))), (2, .int (iI r)), (0, .ref (h 0)), (1, .int (iI (R : Int)))]) S.1 S.2.1 dX1_bound_104 hl (k := 5) rfl ((iI_add _ _).trans (congrArg iI (by omega))) (by decide) rfl (fun ls hl => ?_)
          refine lv_goto (tgt := 12) S.1 S.2.1 dX1_bound_107 (by decide) ?_
          have hl : lv_has ls 6 [(0, .ref (h 0)), (1, .int (iI (R : Int))), (2, .int (iI r)), (3, .int (iI (smR len R (k + 1)))), (4, .int (iI (tl k))), (5, .int (iI ((k + 1 : Nat) : Int)))] := by rw [sm_t hb]; exact lv_sub hl [4, 5, 3, 2, 1, 0] rfl
          exact ih _ _ _ _ (by omega) ⟨k + 1, r, (tl k), rfl, by omega, mn_no hmr (Or.inr c68), mn_yes hmq hb c69, by omega, by omega, by rw [sm_t hb]; omega, w, hl⟩
      · refine lv_aload_n S.1 S.2.1 dX1_bound_42 rfl (lv_at hl 0 rfl) ?_
        refine yg_pt S w dX1_bound_43 ?_
        refine zi_iconst S dX1_bound_46 ?_
        refine lv_iload S.1 S.2.1 dX1_bound_47 (lv_at hl 5 rfl) ?_
        refine zi_imul S dX1_bound_49 ?_
        refine yl_pt S w (3 * k) (by first | rfl | omega) (by omega) dX1_bound_50 ?_
        refine W_is (rel k) (g0) ?_
        refine lv_goto (tgt := 55) S.1 S.2.1 dX1_bound_51 (by decide) ?_
        refine lv_istore_n (lv' := [(2, .int (iI (rel k))), (0, .ref (h 0)), (1, .int (iI (R : Int))), (3, .int (iI (smR len R k))), (4, .int (iI q)), (5, .int (iI (k : Int)))]) S.1 S.2.1 dX1_bound_55 rfl hl (by decide) rfl (fun ls hl => ?_)
        refine lv_iload_n S.1 S.2.1 dX1_bound_56 rfl (lv_at hl 3 rfl) ?_
        refine lv_aload_n S.1 S.2.1 dX1_bound_57 rfl (lv_at hl 1 rfl) ?_
        refine yg_pt S w dX1_bound_58 ?_
        refine zi_iconst S dX1_bound_61 ?_
        refine lv_iload S.1 S.2.1 dX1_bound_62 (lv_at hl 5 rfl) ?_
        refine zi_imul S dX1_bound_64 ?_
        refine zi_iconst S dX1_bound_65 ?_
        refine zi_iadd S dX1_bound_66 ?_
        refine yl_pt S w ((3 * k) + 1) (by first | rfl | omega) (by omega) dX1_bound_67 ?_
        refine W_is (len k) (g1) ?_
        refine zi_iadd S dX1_bound_68 ?_
        refine lv_istore_n (lv' := [(3, .int (iI ((smR len R k) + (len k)))), (2, .int (iI (rel k))), (0, .ref (h 0)), (1, .int (iI (R : Int))), (4, .int (iI q)), (5, .int (iI (k : Int)))]) S.1 S.2.1 dX1_bound_69 rfl hl (by decide) rfl (fun ls hl => ?_)
        refine lv_aload_n S.1 S.2.1 dX1_bound_70 rfl (lv_at hl 2 rfl) ?_
        refine yg_pt S w dX1_bound_71 ?_
        refine zi_iconst S dX1_bound_74 ?_
        refine lv_iload S.1 S.2.1 dX1_bound_75 (lv_at hl 5 rfl) ?_
        refine zi_imul S dX1_bound_77 ?_
        refine zi_iconst S dX1_bound_78 ?_
        refine zi_iadd S dX1_bound_79 ?_
        refine yl_pt S w ((3 * k) + 2) (by first | rfl | omega) (by omega) dX1_bound_80 ?_
        refine W_is (tl k) (g2) ?_
        refine lv_iload S.1 S.2.1 dX1_bound_81 (lv_at hl 4 rfl) ?_
        refine zi_icmp_ge (tgt := 100) S dX1_bound_83 (by decide) (by omega) (by omega) (fun c70 => ?_) (fun c70 => ?_)
        · refine lv_iload S.1 S.2.1 dX1_bound_100 (lv_at hl 4 rfl) ?_
          refine lv_istore (lv' := [(4, .int (iI q)), (3, .int (iI ((smR len R k) + (len k)))), (2, .int (iI (rel k))), (0, .ref (h 0)), (1, .int (iI (R : Int))), (5, .int (iI (k : Int)))]) S.1 S.2.1 dX1_bound_102 hl (by decide) rfl (fun ls hl => ?_)
          refine lv_iinc (v := iI ((k + 1 : Nat) : Int)) (lv' := [(5, .int (iI ((k + 1 : Nat) : Int))), (4, .int (iI q)), (3, .int (iI ((smR len R k) + (len k)))), (2, .int (iI (rel k))), (0, .ref (h 0)), (1, .int (iI (R : Int)))]) S.1 S.2.1 dX1_bound_104 hl (k := 5) rfl ((iI_add _ _).trans (congrArg iI (by omega))) (by decide) rfl (fun ls hl => ?_)
          refine lv_goto (tgt := 12) S.1 S.2.1 dX1_bound_107 (by decide) ?_
          have hl : lv_has ls 6 [(0, .ref (h 0)), (1, .int (iI (R : Int))), (2, .int (iI (rel k))), (3, .int (iI (smR len R (k + 1)))), (4, .int (iI q)), (5, .int (iI ((k + 1 : Nat) : Int)))] := by rw [sm_t hb]; exact lv_sub hl [4, 5, 3, 2, 1, 0] rfl
          exact ih _ _ _ _ (by omega) ⟨k + 1, (rel k), q, rfl, by omega, mn_yes hmr hb c68, mn_no hmq (Or.inr c70), by omega, by omega, by rw [sm_t hb]; omega, w, hl⟩
        · refine lv_aload_n S.1 S.2.1 dX1_bound_86 rfl (lv_at hl 2 rfl) ?_
          refine yg_pt S w dX1_bound_87 ?_
          refine zi_iconst S dX1_bound_90 ?_
          refine lv_iload S.1 S.2.1 dX1_bound_91 (lv_at hl 5 rfl) ?_
          refine zi_imul S dX1_bound_93 ?_
          refine zi_iconst S dX1_bound_94 ?_
          refine zi_iadd S dX1_bound_95 ?_
          refine yl_pt S w ((3 * k) + 2) (by first | rfl | omega) (by omega) dX1_bound_96 ?_
          refine W_is (tl k) (g2) ?_
          refine lv_goto (tgt := 102) S.1 S.2.1 dX1_bound_97 (by decide) ?_
          refine lv_istore (lv' := [(4, .int (iI (tl k))), (3, .int (iI ((smR len R k) + (len k)))), (2, .int (iI (rel k))), (0, .ref (h 0)), (1, .int (iI (R : Int))), (5, .int (iI (k : Int)))]) S.1 S.2.1 dX1_bound_102 hl (by decide) rfl (fun ls hl => ?_)
          refine lv_iinc (v := iI ((k + 1 : Nat) : Int)) (lv' := [(5, .int (iI ((k + 1 : Nat) : Int))), (4, .int (iI (tl k))), (3, .int (iI ((smR len R k) + (len k)))), (2, .int (iI (rel k))), (0, .ref (h 0)), (1, .int (iI (R : Int)))]) S.1 S.2.1 dX1_bound_104 hl (k := 5) rfl ((iI_add _ _).trans (congrArg iI (by omega))) (by decide) rfl (fun ls hl => ?_)
          refine lv_goto (tgt := 12) S.1 S.2.1 dX1_bound_107 (by decide) ?_
          have hl : lv_has ls 6 [(0, .ref (h 0)), (1, .int (iI (R : Int))), (2, .int (iI (rel k))), (3, .int (iI (smR len R (k + 1)))), (4, .int (iI (tl k))), (5, .int (iI ((k + 1 : Nat) : Int)))] := by rw [sm_t hb]; exact lv_sub hl [4, 5, 3, 2, 1, 0] rfl
          exact ih _ _ _ _ (by omega) ⟨k + 1, (rel k), (tl k), rfl, by omega, mn_yes hmr hb c68, mn_yes hmq hb c70, by omega, by omega, by rw [sm_t hb]; omega, w, hl⟩
end
section
/-! HeadTailModel: a part of a job changed for a while; the greatest value -/
set_option maxRecDepth 100000
theorem y_tl {th pt : Nat → Int} {M : Nat} {rel len tl : Nat → Int} (h : yOK th pt M rel len tl) (k : Nat) (v : Int) : yOK th (updZ pt (3 * k + 2) v) M rel len (updZ tl k v) := by
  refine ⟨h.1, h.2.1, fun j hj => ?_⟩
  obtain ⟨g0, g1, g2⟩ := h.2.2 j hj
  rw [updZ_n (show 3 * j ≠ 3 * k + 2 by omega), updZ_n (show 3 * j + 1 ≠ 3 * k + 2 by omega)]
  refine ⟨g0, g1, ?_⟩
  by_cases q : j = k
  · subst q; rw [updZ_s, updZ_s]
  · rw [updZ_n q, updZ_n (show 3 * j + 2 ≠ 3 * k + 2 by omega)]; exact g2
theorem y_rel {th pt : Nat → Int} {M : Nat} {rel len tl : Nat → Int} (h : yOK th pt M rel len tl) (k : Nat) (v : Int) : yOK th (updZ pt (3 * k + 0) v) M (updZ rel k v) len tl := by
  refine ⟨h.1, h.2.1, fun j hj => ?_⟩
  obtain ⟨g0, g1, g2⟩ := h.2.2 j hj
  rw [updZ_n (show 3 * j + 1 ≠ 3 * k + 0 by omega), updZ_n (show 3 * j + 2 ≠ 3 * k + 0 by omega)]
  refine ⟨?_, g1, g2⟩
  by_cases q : j = k
  · subst q
    rw [updZ_s]
    exact updZ_s pt (3 * j + 0) v
  · rw [updZ_n q, updZ_n (show 3 * j ≠ 3 * k + 0 by omega)]; exact g0
theorem nofit {rel len tl : Nat → Int} {M : Nat} (hM : M < 64) {lim : Int} (h : ∀ c, c < fact (cnt M) → lim < run rel len tl 0 0 (dec (cnt M) M c)) : ¬ fits_ rel len tl M lim := by
  rintro ⟨o, h1, h2⟩
  obtain ⟨c, g1, g2⟩ := dec_all o M _ hM rfl h1
  have := h c g1
  rw [g2] at this
  omega
theorem fit {rel len tl : Nat → Int} {M c : Nat} (hM : M < 64) (hc : c < fact (cnt M)) {lim : Int} (h : run rel len tl 0 0 (dec (cnt M) M c) ≤ lim) : fits_ rel len tl M lim := ⟨_, dec_ord _ M c hM rfl hc, h⟩
theorem far_tl {rel len tl : Nat → Int} (hd : dOK rel len tl) {M k : Nat} (hk : k < 6) (hb : M.testBit k = true) {lim v : Int} (hv : lim < v) : ¬ fits_ rel len (updZ tl k v) M lim := by
  rintro ⟨o, h1, h2⟩
  have hm := (isOrd_mem o M h1 k).mpr hb
  have h3 := (run_ge_of (rel := rel) (len := len) (tl := updZ tl k v) o 0 0 hm).1
  rw [updZ_s] at h3
  have := hd k hk
  omega
theorem far_rel {rel len tl : Nat → Int} (hd : dOK rel len tl) {M k : Nat} (hk : k < 6) (hb : M.testBit k = true) {lim v : Int} (hv : lim < v) : ¬ fits_ (updZ rel k v) len tl M lim := by
  rintro ⟨o, h1, h2⟩
  have hm := (isOrd_mem o M h1 k).mpr hb
  have h3 := (run_ge_of (rel := updZ rel k v) (len := len) (tl := tl) o 0 0 hm).1
  rw [updZ_s] at h3
  have := hd k hk
  omega
/-- the greatest value: v is looked at next, f is what has been found -/
def grInv (Q : Int → Prop) (v f : Int) : Prop := (f = -1 ∧ ∀ v' : Int, v < v' → v' ≤ 200 → ¬ Q v') ∨ (0 ≤ f ∧ f ≤ 200 ∧ gIs Q f)
theorem gr_end {Q : Int → Prop} {v f : Int} (h : grInv Q v f) (he : v < 0 ∨ 0 ≤ f) : gIs Q f := by
  rcases h with ⟨h1, h2⟩ | ⟨-, -, h2⟩
  · exact Or.inl ⟨h1, fun v' a b => h2 v' (by omega) b⟩
  · exact h2
theorem gr_none {Q : Int → Prop} {v f : Int} (h : grInv Q v f) (hf : f < 0) (hn : ¬ Q v) : grInv Q (v - 1) (-1) := by
  rcases h with ⟨h1, h2⟩ | ⟨h1, -⟩
  · refine Or.inl ⟨rfl, fun v' a b => ?_⟩
    by_cases e : v' = v
    · subst e; exact hn
    · exact h2 v' (by omega) b
  · omega
theorem gr_some {Q : Int → Prop} {v f : Int} (h : grInv Q v f) (hf : f < 0) (hv : 0 ≤ v ∧ v ≤ 200) (hq : Q v) : grInv Q (v - 1) v := by
  rcases h with ⟨h1, h2⟩ | ⟨h1, -⟩
  · exact Or.inr ⟨hv.1, hv.2, Or.inr ⟨hv.1, hv.2, hq, h2⟩⟩
  · omega
theorem gr_r {Q : Int → Prop} {v f : Int} (h : grInv Q v f) : -1 ≤ f ∧ f ≤ 200 := by
  rcases h with ⟨h1, -⟩ | ⟨h1, h2, -⟩ <;> omega
end
section
/-! HeadTailModel: orders by number, and the answers -/
set_option maxRecDepth 100000
set_option maxHeartbeats 4000000 in
/-- spell(c0) -/
theorem mY_spell (l : Launch) (th pt : Nat → Int) (li st : Nat → Int) (M : Nat) (rel len tl : Nat → Int) (hy : yOK th pt M rel len tl) (hd : dOK rel len tl) (c0 : Nat) (hc : c0 < fact (cnt M)) : CYi l yX1_spell cX1_spell 10 (some .int) 1 24 [.int (iI (c0 : Int))] (th, pt, (cnt M : Int), (fact (cnt M) : Int), li, st) (fun z (u : ((Nat → Int) × (Nat → Int))) => z = run rel len tl 0 0 (dec (cnt M) M c0) ∧ (∀ i, i < cnt M → u.1 i = (((dec (cnt M) M c0).getD i 0 : Nat) : Int)) ∧ ∀ j, M.testBit j = true → u.2 j = beg rel len 0 (dec (cnt M) M c0) j) (fun u => (th, pt, (cnt M : Int), (fact (cnt M) : Int), u.1, u.2)) := by
  refine CYi.of (by decide) rfl (fun _ => Nat.le_of_ble_eq_true rfl) ?_
  intro p e s m below meth c D h g A S hr hlk w ls hl
  have hl : lv_has ls 10 [(0, .ref (h 0)), (1, .int (iI (c0 : Int)))] := hl
  have w : yA D h g A s s.heap th pt (cnt M : Int) (fact (cnt M) : Int) li st s.heap [] := w
  have hc6 := cnt_le M
  have hf720 := fact_720 hc6
  have hM := hy.1
  refine lv_iload_n S.1 S.2.1 dX1_spell_0 rfl (lv_at hl 1 rfl) ?_
  refine lv_istore_n (lv' := [(2, .int (iI (c0 : Int))), (0, .ref (h 0)), (1, .int (iI (c0 : Int)))]) S.1 S.2.1 dX1_spell_1 rfl hl (by decide) rfl (fun ls hl => ?_)
  refine lv_aload_n S.1 S.2.1 dX1_spell_2 rfl (lv_at hl 1 rfl) ?_
  refine yg_od S w dX1_spell_3 ?_
  refine lv_istore_n (lv' := [(3, .int (iI ((fact (cnt M)) : Int))), (2, .int (iI (c0 : Int))), (0, .ref (h 0)), (1, .int (iI (c0 : Int)))]) S.1 S.2.1 dX1_spell_6 rfl hl (by decide) rfl (fun ls hl => ?_)
  refine lv_aload_n S.1 S.2.1 dX1_spell_7 rfl (lv_at hl 2 rfl) ?_
  refine ycalli [] S w fY_jobs (mY_jobs l th pt (cnt M : Int) (fact (cnt M) : Int) li st M rel len tl hy) rfl ⟨Nat.le_of_ble_eq_true rfl, Nat.le_of_ble_eq_true rfl⟩ hl.1 (Nat.le_of_ble_eq_true rfl) rfl ⟨Nat.zero_le _, Nat.zero_le _⟩ dX1_spell_8 (fun z u H locs hp w => ?_)
  subst hp
  have w : yA D h g A s s.heap th pt (cnt M : Int) (fact (cnt M) : Int) li st H locs := w
  refine lv_istore (lv' := [(4, .int (iI (M : Int))), (3, .int (iI ((fact (cnt M)) : Int))), (2, .int (iI (c0 : Int))), (0, .ref (h 0)), (1, .int (iI (c0 : Int)))]) S.1 S.2.1 dX1_spell_11 hl (by decide) rfl (fun ls hl => ?_)
  refine zi_iconst S dX1_spell_13 ?_
  refine lv_istore (lv' := [(5, .int (iI 0)), (4, .int (iI (M : Int))), (3, .int (iI ((fact (cnt M)) : Int))), (2, .int (iI (c0 : Int))), (0, .ref (h 0)), (1, .int (iI (c0 : Int)))]) S.1 S.2.1 dX1_spell_14 hl (by decide) rfl (fun ls hl => ?_)
  refine zi_iconst S dX1_spell_16 ?_
  refine lv_istore (lv' := [(6, .int (iI 0)), (5, .int (iI 0)), (4, .int (iI (M : Int))), (3, .int (iI ((fact (cnt M)) : Int))), (2, .int (iI (c0 : Int))), (0, .ref (h 0)), (1, .int (iI (c0 : Int)))]) S.1 S.2.1 dX1_spell_17 hl (by decide) rfl (fun ls hl => ?_)
  refine zi_iconst S dX1_spell_19 ?_
  refine lv_istore (lv' := [(7, .int (iI 0)), (6, .int (iI 0)), (5, .int (iI 0)), (4, .int (iI (M : Int))), (3, .int (iI ((fact (cnt M)) : Int))), (2, .int (iI (c0 : Int))), (0, .ref (h 0)), (1, .int (iI (c0 : Int)))]) S.1 S.2.1 dX1_spell_20 hl (by decide) rfl (fun ls hl => ?_)
  refine W_loop (fun n2 H locs ls => ∃ (k rs R : Nat) (t L : Int) (lix stx : Nat → Int), n2 = cnt M - k ∧ spInv rel len tl M c0 k rs R t L lix stx ∧ yA D h g A s s.heap th pt (cnt M : Int) (fact (cnt M) : Int) lix stx H locs ∧ lv_has ls 10 [(0, .ref (h 0)), (1, .int (iI (c0 : Int))), (2, .int (iI (rs : Int))), (3, .int (iI (fact (cnt M - k) : Int))), (4, .int (iI (R : Int))), (5, .int (iI t)), (6, .int (iI L)), (7, .int (iI (k : Int)))]) 22 ?_ (cnt M) _ _ _ ⟨0, c0, M, 0, 0, li, st, rfl, sp_init hM hc li st, w, lv_sub hl [6, 7, 5, 4, 3, 2, 1, 0] rfl⟩
  intro n2 H locs ls hI ih
  obtain ⟨k, rs, R, t, L, lix, stx, hn2, hsp, w, hl⟩ := hI
  have hkc : k ≤ cnt M := hsp.1
  have hR : R < 64 := hsp.2.2.1
  obtain ⟨htb, hLb⟩ : (0 ≤ t ∧ t ≤ 212 * k) ∧ (0 ≤ L ∧ L ≤ 212 * k + 200) := by
    obtain ⟨p1, p2, p3, p4, p4b, p5, p6, p7, p8, p9, p10, p11⟩ := hsp
    exact ⟨p10, p11⟩
  refine lv_iload S.1 S.2.1 dX1_spell_22 (lv_at hl 7 rfl) ?_
  refine lv_aload_n S.1 S.2.1 dX1_spell_24 rfl (lv_at hl 0 rfl) ?_
  refine yg_nn S w dX1_spell_25 ?_
  refine zi_icmp_ge (tgt := 198) S dX1_spell_28 (by decide) (by omega) (by omega) (fun c71 => ?_) (fun c71 => ?_)
  · refine lv_iload S.1 S.2.1 dX1_spell_198 (lv_at hl 6 rfl) ?_
    exact yreti (lix, stx) S hr rfl hlk w (sp_end hsp (by omega)) dX1_spell_200
  · obtain ⟨mm, hmm⟩ : ∃ mm, cnt M - k = mm + 1 := ⟨cnt M - k - 1, by omega⟩
    obtain ⟨g1, g2, g3, hsp2⟩ := sp_step hd hsp hmm
    have hrs : rs < fact (mm + 1) := by have q := hsp.2.1; rw [hmm] at q; exact q
    rw [hmm] at hl
    have hf1 : fact (mm + 1) ≤ 720 := fact_720 (by omega)
    have hfp : 0 < fact mm := fact_pos mm
    have hf2 : fact mm ≤ 720 := fact_720 (by omega)
    refine lv_iload_n S.1 S.2.1 dX1_spell_31 rfl (lv_at hl 3 rfl) ?_
    refine lv_aload_n S.1 S.2.1 dX1_spell_32 rfl (lv_at hl 0 rfl) ?_
    refine yg_nn S w dX1_spell_33 ?_
    refine lv_iload S.1 S.2.1 dX1_spell_36 (lv_at hl 7 rfl) ?_
    refine zi_isub S dX1_spell_38 ?_
    refine W_is ((mm + 1 : Nat) : Int) (by omega) ?_
    refine zi_idiv S (a := (fact (mm + 1))) (d := (mm + 1)) (by omega) (by omega) (by omega) dX1_spell_39 ?_
    refine W_is (fact mm : Int) (congrArg _ (by rw [show fact (mm + 1) = fact mm * (mm + 1) from rfl, Nat.mul_div_cancel _ (by omega)])) ?_
    refine lv_istore_n (lv' := [(3, .int (iI (fact mm : Int))), (0, .ref (h 0)), (1, .int (iI (c0 : Int))), (2, .int (iI (rs : Int))), (4, .int (iI (R : Int))), (5, .int (iI t)), (6, .int (iI L)), (7, .int (iI (k : Int)))]) S.1 S.2.1 dX1_spell_40 rfl hl (by decide) rfl (fun ls hl => ?_)
    refine lv_iload_n S.1 S.2.1 dX1_spell_41 rfl (lv_at hl 0 rfl) ?_
    refine zi_if_le (tgt := 51) S dX1_spell_42 (by decide) (by omega) (fun c72 => absurd c72 (by omega)) (fun c72 => ?_)
    refine lv_iload_n S.1 S.2.1 dX1_spell_45 rfl (lv_at hl 3 rfl) ?_
    refine lv_iload_n S.1 S.2.1 dX1_spell_46 rfl (lv_at hl 0 rfl) ?_
    refine zi_idiv S (a := rs) (d := (fact mm)) (by omega) (by omega) (by omega) dX1_spell_47 ?_
    refine lv_goto (tgt := 52) S.1 S.2.1 dX1_spell_48 (by decide) ?_
    refine lv_istore (lv' := [(8, .int (iI (((rs / (fact mm)) : Nat) : Int))), (3, .int (iI (fact mm : Int))), (0, .ref (h 0)), (1, .int (iI (c0 : Int))), (2, .int (iI (rs : Int))), (4, .int (iI (R : Int))), (5, .int (iI t)), (6, .int (iI L)), (7, .int (iI (k : Int)))]) S.1 S.2.1 dX1_spell_52 hl (by decide) rfl (fun ls hl => ?_)
    refine lv_iload_n S.1 S.2.1 dX1_spell_54 rfl (lv_at hl 1 rfl) ?_
    refine zi_if_le (tgt := 64) S dX1_spell_55 (by decide) (by omega) (fun c73 => absurd c73 (by omega)) (fun c73 => ?_)
    refine lv_iload_n S.1 S.2.1 dX1_spell_58 rfl (lv_at hl 4 rfl) ?_
    refine lv_iload_n S.1 S.2.1 dX1_spell_59 rfl (lv_at hl 1 rfl) ?_
    refine zi_irem S (a := rs) (d := (fact mm)) (by omega) (by omega) (by omega) dX1_spell_60 ?_
    refine lv_goto (tgt := 65) S.1 S.2.1 dX1_spell_61 (by decide) ?_
    refine lv_istore_n (lv' := [(2, .int (iI (((rs % (fact mm)) : Nat) : Int))), (8, .int (iI (((rs / (fact mm)) : Nat) : Int))), (3, .int (iI (fact mm : Int))), (0, .ref (h 0)), (1, .int (iI (c0 : Int))), (4, .int (iI (R : Int))), (5, .int (iI t)), (6, .int (iI L)), (7, .int (iI (k : Int)))]) S.1 S.2.1 dX1_spell_65 rfl hl (by decide) rfl (fun ls hl => ?_)
    refine lv_aload_n S.1 S.2.1 dX1_spell_66 rfl (lv_at hl 3 rfl) ?_
    refine lv_iload S.1 S.2.1 dX1_spell_67 (lv_at hl 5 rfl) ?_
    refine lv_iload S.1 S.2.1 dX1_spell_69 (lv_at hl 1 rfl) ?_
    refine ycalli [] S w fY_nth (mY_nth l th pt (cnt M : Int) (fact (cnt M) : Int) lix stx R (rs / fact mm) hR g3) rfl ⟨Nat.le_of_ble_eq_true rfl, Nat.le_of_ble_eq_true rfl⟩ hl.1 (Nat.le_of_ble_eq_true rfl) rfl ⟨Nat.zero_le _, Nat.zero_le _⟩ dX1_spell_71 (fun z u H locs hp w => ?_)
    subst hp
    have w : yA D h g A s s.heap th pt (cnt M : Int) (fact (cnt M) : Int) lix stx H locs := w
    generalize hjk : kth R (rs / fact mm) = j at g1 g2 hsp2 ⊢
    have hdj := hd j g1
    obtain ⟨q0, q1, q2⟩ := hy.2.2 j g1
    refine lv_istore (lv' := [(9, .int (iI (j : Int))), (2, .int (iI (((rs % (fact mm)) : Nat) : Int))), (8, .int (iI (((rs / (fact mm)) : Nat) : Int))), (3, .int (iI (fact mm : Int))), (0, .ref (h 0)), (1, .int (iI (c0 : Int))), (4, .int (iI (R : Int))), (5, .int (iI t)), (6, .int (iI L)), (7, .int (iI (k : Int)))]) S.1 S.2.1 dX1_spell_74 hl (by decide) rfl (fun ls hl => ?_)
    refine lv_iload S.1 S.2.1 dX1_spell_76 (lv_at hl 6 rfl) ?_
    refine zi_iconst S dX1_spell_78 ?_
    refine lv_iload S.1 S.2.1 dX1_spell_79 (lv_at hl 0 rfl) ?_
    refine zi_shl1 S j (by first | rfl | omega) (by omega) dX1_spell_81 ?_
    refine zi_andnot S R (2 ^ j) (by first | rfl | omega) (by first | rfl | omega) dX1_spell_82 dX1_spell_83 dX1_spell_84 ?_
    refine lv_istore (lv' := [(4, .int (iI (((sd R (2 ^ j)) : Nat) : Int))), (9, .int (iI (j : Int))), (2, .int (iI (((rs % (fact mm)) : Nat) : Int))), (8, .int (iI (((rs / (fact mm)) : Nat) : Int))), (3, .int (iI (fact mm : Int))), (0, .ref (h 0)), (1, .int (iI (c0 : Int))), (5, .int (iI t)), (6, .int (iI L)), (7, .int (iI (k : Int)))]) S.1 S.2.1 dX1_spell_85 hl (by decide) rfl (fun ls hl => ?_)
    refine lv_aload_n S.1 S.2.1 dX1_spell_87 rfl (lv_at hl 5 rfl) ?_
    refine yg_li S w dX1_spell_88 ?_
    refine lv_iload S.1 S.2.1 dX1_spell_91 (lv_at hl 9 rfl) ?_
    refine lv_iload S.1 S.2.1 dX1_spell_93 (lv_at hl 1 rfl) ?_
    refine ys_li S w k (by first | rfl | omega) (by omega) dX1_spell_95 (fun H locs w => ?_)
    refine lv_aload_n S.1 S.2.1 dX1_spell_96 rfl (lv_at hl 5 rfl) ?_
    refine yg_st S w dX1_spell_97 ?_
    refine lv_iload S.1 S.2.1 dX1_spell_100 (lv_at hl 1 rfl) ?_
    refine lv_aload_n S.1 S.2.1 dX1_spell_102 rfl (lv_at hl 5 rfl) ?_
    refine yg_pt S w dX1_spell_103 ?_
    refine zi_iconst S dX1_spell_106 ?_
    refine lv_iload S.1 S.2.1 dX1_spell_107 (lv_at hl 1 rfl) ?_
    refine zi_imul S dX1_spell_109 ?_
    refine yl_pt S w (3 * j) (by first | rfl | omega) (by omega) dX1_spell_110 ?_
    refine W_is (rel j) (q0) ?_
    refine lv_iload S.1 S.2.1 dX1_spell_111 (lv_at hl 7 rfl) ?_
    refine zi_icmp_le (tgt := 128) S dX1_spell_113 (by decide) (by omega) (by omega) (fun c74 => ?_) (fun c74 => ?_)
    · refine lv_iload S.1 S.2.1 dX1_spell_128 (lv_at hl 7 rfl) ?_
      refine W_is (max t (rel j)) (by omega) ?_
      refine ys_st S w j (by first | rfl | omega) (by omega) dX1_spell_130 (fun H locs w => ?_)
      refine lv_aload_n S.1 S.2.1 dX1_spell_131 rfl (lv_at hl 5 rfl) ?_
      refine yg_st S w dX1_spell_132 ?_
      refine lv_iload S.1 S.2.1 dX1_spell_135 (lv_at hl 1 rfl) ?_
      refine yl_st S w j (by first | rfl | omega) (by omega) dX1_spell_137 ?_
      refine W_is (max t (rel j)) (updZ_s _ _ _) ?_
      refine lv_aload_n S.1 S.2.1 dX1_spell_138 rfl (lv_at hl 5 rfl) ?_
      refine yg_pt S w dX1_spell_139 ?_
      refine zi_iconst S dX1_spell_142 ?_
      refine lv_iload S.1 S.2.1 dX1_spell_143 (lv_at hl 1 rfl) ?_
      refine zi_imul S dX1_spell_145 ?_
      refine zi_iconst S dX1_spell_146 ?_
      refine zi_iadd S dX1_spell_147 ?_
      refine yl_pt S w ((3 * j) + 1) (by first | rfl | omega) (by omega) dX1_spell_148 ?_
      refine W_is (len j) (q1) ?_
      refine zi_iadd S dX1_spell_149 ?_
      refine W_is (nx rel len t j) rfl ?_
      have hnx : nx rel len t j = max t (rel j) + len j := rfl
      refine lv_istore (lv' := [(5, .int (iI (nx rel len t j))), (4, .int (iI (((sd R (2 ^ j)) : Nat) : Int))), (9, .int (iI (j : Int))), (2, .int (iI (((rs % (fact mm)) : Nat) : Int))), (8, .int (iI (((rs / (fact mm)) : Nat) : Int))), (3, .int (iI (fact mm : Int))), (0, .ref (h 0)), (1, .int (iI (c0 : Int))), (6, .int (iI L)), (7, .int (iI (k : Int)))]) S.1 S.2.1 dX1_spell_150 hl (by decide) rfl (fun ls hl => ?_)
      refine lv_iload S.1 S.2.1 dX1_spell_152 (lv_at hl 0 rfl) ?_
      refine lv_aload_n S.1 S.2.1 dX1_spell_154 rfl (lv_at hl 6 rfl) ?_
      refine yg_pt S w dX1_spell_155 ?_
      refine zi_iconst S dX1_spell_158 ?_
      refine lv_iload S.1 S.2.1 dX1_spell_159 (lv_at hl 2 rfl) ?_
      refine zi_imul S dX1_spell_161 ?_
      refine zi_iconst S dX1_spell_162 ?_
      refine zi_iadd S dX1_spell_163 ?_
      refine yl_pt S w ((3 * j) + 2) (by first | rfl | omega) (by omega) dX1_spell_164 ?_
      refine W_is (tl j) (q2) ?_
      refine zi_iadd S dX1_spell_165 ?_
      refine lv_iload S.1 S.2.1 dX1_spell_166 (lv_at hl 8 rfl) ?_
      refine zi_icmp_le (tgt := 188) S dX1_spell_168 (by decide) (by omega) (by omega) (fun c75 => ?_) (fun c75 => ?_)
      · refine lv_iload S.1 S.2.1 dX1_spell_188 (lv_at hl 8 rfl) ?_
        refine W_is (max L (nx rel len t j + tl j)) (by omega) ?_
        refine lv_istore (lv' := [(6, .int (iI (max L (nx rel len t j + tl j)))), (5, .int (iI (nx rel len t j))), (4, .int (iI (((sd R (2 ^ j)) : Nat) : Int))), (9, .int (iI (j : Int))), (2, .int (iI (((rs % (fact mm)) : Nat) : Int))), (8, .int (iI (((rs / (fact mm)) : Nat) : Int))), (3, .int (iI (fact mm : Int))), (0, .ref (h 0)), (1, .int (iI (c0 : Int))), (7, .int (iI (k : Int)))]) S.1 S.2.1 dX1_spell_190 hl (by decide) rfl (fun ls hl => ?_)
        refine lv_iinc (v := iI ((k + 1 : Nat) : Int)) (lv' := [(7, .int (iI ((k + 1 : Nat) : Int))), (6, .int (iI (max L (nx rel len t j + tl j)))), (5, .int (iI (nx rel len t j))), (4, .int (iI (((sd R (2 ^ j)) : Nat) : Int))), (9, .int (iI (j : Int))), (2, .int (iI (((rs % (fact mm)) : Nat) : Int))), (8, .int (iI (((rs / (fact mm)) : Nat) : Int))), (3, .int (iI (fact mm : Int))), (0, .ref (h 0)), (1, .int (iI (c0 : Int)))]) S.1 S.2.1 dX1_spell_192 hl (k := 9) rfl ((iI_add _ _).trans (congrArg iI (by omega))) (by decide) rfl (fun ls hl => ?_)
        refine lv_goto (tgt := 22) S.1 S.2.1 dX1_spell_195 (by decide) ?_
        exact ih _ _ _ _ (by omega) ⟨k + 1, rs % fact mm, sd R (2 ^ j), (nx rel len t j), (max L (nx rel len t j + tl j)), (updZ lix k (j : Int)), (updZ stx j (max t (rel j))), rfl, hsp2, w, by rw [show cnt M - (k + 1) = mm by omega]; exact lv_sub hl [8, 9, 5, 7, 3, 2, 1, 0] rfl⟩
      · refine lv_iload S.1 S.2.1 dX1_spell_171 (lv_at hl 0 rfl) ?_
        refine lv_aload_n S.1 S.2.1 dX1_spell_173 rfl (lv_at hl 6 rfl) ?_
        refine yg_pt S w dX1_spell_174 ?_
        refine zi_iconst S dX1_spell_177 ?_
        refine lv_iload S.1 S.2.1 dX1_spell_178 (lv_at hl 2 rfl) ?_
        refine zi_imul S dX1_spell_180 ?_
        refine zi_iconst S dX1_spell_181 ?_
        refine zi_iadd S dX1_spell_182 ?_
        refine yl_pt S w ((3 * j) + 2) (by first | rfl | omega) (by omega) dX1_spell_183 ?_
        refine W_is (tl j) (q2) ?_
        refine zi_iadd S dX1_spell_184 ?_
        refine lv_goto (tgt := 190) S.1 S.2.1 dX1_spell_185 (by decide) ?_
        refine W_is (max L (nx rel len t j + tl j)) (by omega) ?_
        refine lv_istore (lv' := [(6, .int (iI (max L (nx rel len t j + tl j)))), (5, .int (iI (nx rel len t j))), (4, .int (iI (((sd R (2 ^ j)) : Nat) : Int))), (9, .int (iI (j : Int))), (2, .int (iI (((rs % (fact mm)) : Nat) : Int))), (8, .int (iI (((rs / (fact mm)) : Nat) : Int))), (3, .int (iI (fact mm : Int))), (0, .ref (h 0)), (1, .int (iI (c0 : Int))), (7, .int (iI (k : Int)))]) S.1 S.2.1 dX1_spell_190 hl (by decide) rfl (fun ls hl => ?_)
        refine lv_iinc (v := iI ((k + 1 : Nat) : Int)) (lv' := [(7, .int (iI ((k + 1 : Nat) : Int))), (6, .int (iI (max L (nx rel len t j + tl j)))), (5, .int (iI (nx rel len t j))), (4, .int (iI (((sd R (2 ^ j)) : Nat) : Int))), (9, .int (iI (j : Int))), (2, .int (iI (((rs % (fact mm)) : Nat) : Int))), (8, .int (iI (((rs / (fact mm)) : Nat) : Int))), (3, .int (iI (fact mm : Int))), (0, .ref (h 0)), (1, .int (iI (c0 : Int)))]) S.1 S.2.1 dX1_spell_192 hl (k := 9) rfl ((iI_add _ _).trans (congrArg iI (by omega))) (by decide) rfl (fun ls hl => ?_)
        refine lv_goto (tgt := 22) S.1 S.2.1 dX1_spell_195 (by decide) ?_
        exact ih _ _ _ _ (by omega) ⟨k + 1, rs % fact mm, sd R (2 ^ j), (nx rel len t j), (max L (nx rel len t j + tl j)), (updZ lix k (j : Int)), (updZ stx j (max t (rel j))), rfl, hsp2, w, by rw [show cnt M - (k + 1) = mm by omega]; exact lv_sub hl [8, 9, 5, 7, 3, 2, 1, 0] rfl⟩
    · refine lv_aload_n S.1 S.2.1 dX1_spell_116 rfl (lv_at hl 5 rfl) ?_
      refine yg_pt S w dX1_spell_117 ?_
      refine zi_iconst S dX1_spell_120 ?_
      refine lv_iload S.1 S.2.1 dX1_spell_121 (lv_at hl 1 rfl) ?_
      refine zi_imul S dX1_spell_123 ?_
      refine yl_pt S w (3 * j) (by first | rfl | omega) (by omega) dX1_spell_124 ?_
      refine W_is (rel j) (q0) ?_
      refine lv_goto (tgt := 130) S.1 S.2.1 dX1_spell_125 (by decide) ?_
      refine W_is (max t (rel j)) (by omega) ?_
      refine ys_st S w j (by first | rfl | omega) (by omega) dX1_spell_130 (fun H locs w => ?_)
      refine lv_aload_n S.1 S.2.1 dX1_spell_131 rfl (lv_at hl 5 rfl) ?_
      refine yg_st S w dX1_spell_132 ?_
      refine lv_iload S.1 S.2.1 dX1_spell_135 (lv_at hl 1 rfl) ?_
      refine yl_st S w j (by first | rfl | omega) (by omega) dX1_spell_137 ?_
      refine W_is (max t (rel j)) (updZ_s _ _ _) ?_
      refine lv_aload_n S.1 S.2.1 dX1_spell_138 rfl (lv_at hl 5 rfl) ?_
      refine yg_pt S w dX1_spell_139 ?_
      refine zi_iconst S dX1_spell_142 ?_
      refine lv_iload S.1 S.2.1 dX1_spell_143 (lv_at hl 1 rfl) ?_
      refine zi_imul S dX1_spell_145 ?_
      refine zi_iconst S dX1_spell_146 ?_
      refine zi_iadd S dX1_spell_147 ?_
      refine yl_pt S w ((3 * j) + 1) (by first | rfl | omega) (by omega) dX1_spell_148 ?_
      refine W_is (len j) (q1) ?_
      refine zi_iadd S dX1_spell_149 ?_
      refine W_is (nx rel len t j) rfl ?_
      have hnx : nx rel len t j = max t (rel j) + len j := rfl
      refine lv_istore (lv' := [(5, .int (iI (nx rel len t j))), (4, .int (iI (((sd R (2 ^ j)) : Nat) : Int))), (9, .int (iI (j : Int))), (2, .int (iI (((rs % (fact mm)) : Nat) : Int))), (8, .int (iI (((rs / (fact mm)) : Nat) : Int))), (3, .int (iI (fact mm : Int))), (0, .ref (h 0)), (1, .int (iI (c0 : Int))), (6, .int (iI L)), (7, .int (iI (k : Int)))]) S.1 S.2.1 dX1_spell_150 hl (by decide) rfl (fun ls hl => ?_)
      refine lv_iload S.1 S.2.1 dX1_spell_152 (lv_at hl 0 rfl) ?_
      refine lv_aload_n S.1 S.2.1 dX1_spell_154 rfl (lv_at hl 6 rfl) ?_
      refine yg_pt S w dX1_spell_155 ?_
      refine zi_iconst S dX1_spell_158 ?_
      refine lv_iload S.1 S.2.1 dX1_spell_159 (lv_at hl 2 rfl) ?_
      refine zi_imul S dX1_spell_161 ?_
      refine zi_iconst S dX1_spell_162 ?_
      refine zi_iadd S dX1_spell_163 ?_
      refine yl_pt S w ((3 * j) + 2) (by first | rfl | omega) (by omega) dX1_spell_164 ?_
      refine W_is (tl j) (q2) ?_
      refine zi_iadd S dX1_spell_165 ?_
      refine lv_iload S.1 S.2.1 dX1_spell_166 (lv_at hl 8 rfl) ?_
      refine zi_icmp_le (tgt := 188) S dX1_spell_168 (by decide) (by omega) (by omega) (fun c76 => ?_) (fun c76 => ?_)
      · refine lv_iload S.1 S.2.1 dX1_spell_188 (lv_at hl 8 rfl) ?_
        refine W_is (max L (nx rel len t j + tl j)) (by omega) ?_
        refine lv_istore (lv' := [(6, .int (iI (max L (nx rel len t j + tl j)))), (5, .int (iI (nx rel len t j))), (4, .int (iI (((sd R (2 ^ j)) : Nat) : Int))), (9, .int (iI (j : Int))), (2, .int (iI (((rs % (fact mm)) : Nat) : Int))), (8, .int (iI (((rs / (fact mm)) : Nat) : Int))), (3, .int (iI (fact mm : Int))), (0, .ref (h 0)), (1, .int (iI (c0 : Int))), (7, .int (iI (k : Int)))]) S.1 S.2.1 dX1_spell_190 hl (by decide) rfl (fun ls hl => ?_)
        refine lv_iinc (v := iI ((k + 1 : Nat) : Int)) (lv' := [(7, .int (iI ((k + 1 : Nat) : Int))), (6, .int (iI (max L (nx rel len t j + tl j)))), (5, .int (iI (nx rel len t j))), (4, .int (iI (((sd R (2 ^ j)) : Nat) : Int))), (9, .int (iI (j : Int))), (2, .int (iI (((rs % (fact mm)) : Nat) : Int))), (8, .int (iI (((rs / (fact mm)) : Nat) : Int))), (3, .int (iI (fact mm : Int))), (0, .ref (h 0)), (1, .int (iI (c0 : Int)))]) S.1 S.2.1 dX1_spell_192 hl (k := 9) rfl ((iI_add _ _).trans (congrArg iI (by omega))) (by decide) rfl (fun ls hl => ?_)
        refine lv_goto (tgt := 22) S.1 S.2.1 dX1_spell_195 (by decide) ?_
        exact ih _ _ _ _ (by omega) ⟨k + 1, rs % fact mm, sd R (2 ^ j), (nx rel len t j), (max L (nx rel len t j + tl j)), (updZ lix k (j : Int)), (updZ stx j (max t (rel j))), rfl, hsp2, w, by rw [show cnt M - (k + 1) = mm by omega]; exact lv_sub hl [8, 9, 5, 7, 3, 2, 1, 0] rfl⟩
      · refine lv_iload S.1 S.2.1 dX1_spell_171 (lv_at hl 0 rfl) ?_
        refine lv_aload_n S.1 S.2.1 dX1_spell_173 rfl (lv_at hl 6 rfl) ?_
        refine yg_pt S w dX1_spell_174 ?_
        refine zi_iconst S dX1_spell_177 ?_
        refine lv_iload S.1 S.2.1 dX1_spell_178 (lv_at hl 2 rfl) ?_
        refine zi_imul S dX1_spell_180 ?_
        refine zi_iconst S dX1_spell_181 ?_
        refine zi_iadd S dX1_spell_182 ?_
        refine yl_pt S w ((3 * j) + 2) (by first | rfl | omega) (by omega) dX1_spell_183 ?_
        refine W_is (tl j) (q2) ?_
        refine zi_iadd S dX1_spell_184 ?_
        refine lv_goto (tgt := 190) S.1 S.2.1 dX1_spell_185 (by decide) ?_
        refine W_is (max L (nx rel len t j + tl j)) (by omega) ?_
        refine lv_istore (lv' := [(6, .int (iI (max L (nx rel len t j + tl j)))), (5, .int (iI (nx rel len t j))), (4, .int (iI (((sd R (2 ^ j)) : Nat) : Int))), (9, .int (iI (j : Int))), (2, .int (iI (((rs % (fact mm)) : Nat) : Int))), (8, .int (iI (((rs / (fact mm)) : Nat) : Int))), (3, .int (iI (fact mm : Int))), (0, .ref (h 0)), (1, .int (iI (c0 : Int))), (7, .int (iI (k : Int)))]) S.1 S.2.1 dX1_spell_190 hl (by decide) rfl (fun ls hl => ?_)
        refine lv_iinc (v := iI ((k + 1 : Nat) : Int)) (lv' := [(7, .int (iI ((k + 1 : Nat) : Int))), (6, .int (iI (max L (nx rel len t j + tl j)))), (5, .int (iI (nx rel len t j))), (4, .int (iI (((sd R (2 ^ j)) : Nat) : Int))), (9, .int (iI (j : Int))), (2, .int (iI (((rs % (fact mm)) : Nat) : Int))), (8, .int (iI (((rs / (fact mm)) : Nat) : Int))), (3, .int (iI (fact mm : Int))), (0, .ref (h 0)), (1, .int (iI (c0 : Int)))]) S.1 S.2.1 dX1_spell_192 hl (k := 9) rfl ((iI_add _ _).trans (congrArg iI (by omega))) (by decide) rfl (fun ls hl => ?_)
        refine lv_goto (tgt := 22) S.1 S.2.1 dX1_spell_195 (by decide) ?_
        exact ih _ _ _ _ (by omega) ⟨k + 1, rs % fact mm, sd R (2 ^ j), (nx rel len t j), (max L (nx rel len t j + tl j)), (updZ lix k (j : Int)), (updZ stx j (max t (rel j))), rfl, hsp2, w, by rw [show cnt M - (k + 1) = mm by omega]; exact lv_sub hl [8, 9, 5, 7, 3, 2, 1, 0] rfl⟩
theorem lo_not {M a b c : Nat} {z1 z2 : Int} (hab : a ≠ b) (h : z1 < z2 ↔ before a b (dec (cnt M) M c)) (hz : z2 ≤ z1) : ¬ okC M a b c := fun q => by
  rcases q with q | q
  · exact hab q
  · have := h.mpr q
    omega
set_option maxHeartbeats 4000000 in
/-- leastOf(a, b) -/
theorem mY_leastOf (l : Launch) (th pt : Nat → Int) (nn od : Int) (li st : Nat → Int) (M : Nat) (rel len tl : Nat → Int) (hy : yOK th pt M rel len tl) (hd : dOK rel len tl) (a b : Nat) (ha : a < 6) (hb : b < 6) (hab : a = b ∨ (M.testBit a = true ∧ M.testBit b = true)) : CYi l yX1_leastOf cX1_leastOf 6 (some .int) 2 53 [.int (iI (a : Int)), .int (iI (b : Int))] (th, pt, nn, od, li, st) (fun z (_ : ((Nat → Int) × (Nat → Int))) => loInv rel len tl M (okC M a b) (fact (cnt M)) z) (fun u => (th, pt, (cnt M : Int), (fact (cnt M) : Int), u.1, u.2)) := by
  refine CYi.of (by decide) rfl (fun _ => Nat.le_of_ble_eq_true rfl) ?_
  intro p e s m below meth c D h g A S hr hlk w ls hl
  have hl : lv_has ls 6 [(0, .ref (h 0)), (1, .int (iI (a : Int))), (2, .int (iI (b : Int)))] := hl
  have w : yA D h g A s s.heap th pt nn od li st s.heap [] := w
  have hc6 := cnt_le M
  have hf720 := fact_720 hc6
  have hM := hy.1
  refine lv_aload_n S.1 S.2.1 dX1_leastOf_0 rfl (lv_at hl 0 rfl) ?_
  refine ycallv [] S w fY_count (mY_count l th pt nn od li st M rel len tl hy) rfl ⟨Nat.le_of_ble_eq_true rfl, Nat.le_of_ble_eq_true rfl⟩ hl.1 (Nat.le_of_ble_eq_true rfl) rfl ⟨Nat.zero_le _, Nat.zero_le _⟩ dX1_leastOf_1 (fun u H locs hp w => ?_)
  have w : yA D h g A s s.heap th pt (cnt M : Int) (fact (cnt M) : Int) li st H locs := w
  refine zi_ldc (v := 100000) S q255 dX1_leastOf_4 ?_
  refine lv_istore_n (lv' := [(3, .int (iI 100000)), (0, .ref (h 0)), (1, .int (iI (a : Int))), (2, .int (iI (b : Int)))]) S.1 S.2.1 dX1_leastOf_6 rfl hl (by decide) rfl (fun ls hl => ?_)
  refine zi_iconst S dX1_leastOf_7 ?_
  refine lv_istore (lv' := [(4, .int (iI 0)), (3, .int (iI 100000)), (0, .ref (h 0)), (1, .int (iI (a : Int))), (2, .int (iI (b : Int)))]) S.1 S.2.1 dX1_leastOf_8 hl (by decide) rfl (fun ls hl => ?_)
  refine W_loop (fun n2 H locs ls => ∃ (c0 : Nat) (zl : Int) (lix stx : Nat → Int), n2 = fact (cnt M) - c0 ∧ c0 ≤ fact (cnt M) ∧ loInv rel len tl M (okC M a b) c0 zl ∧ yA D h g A s s.heap th pt (cnt M : Int) (fact (cnt M) : Int) lix stx H locs ∧ lv_has ls 6 [(0, .ref (h 0)), (1, .int (iI (a : Int))), (2, .int (iI (b : Int))), (3, .int (iI zl)), (4, .int (iI (c0 : Int)))]) 10 ?_ (fact (cnt M)) _ _ _ ⟨0, 100000, li, st, rfl, by omega, lo_0 _ _ _ _ _, w, lv_sub hl [2, 3, 4, 1, 0] rfl⟩
  intro n2 H locs ls hI ih
  obtain ⟨c0, zl, lix, stx, hn2, hcf, hlo, w, hl⟩ := hI
  have hzr := hlo.1
  refine lv_iload S.1 S.2.1 dX1_leastOf_10 (lv_at hl 4 rfl) ?_
  refine lv_aload_n S.1 S.2.1 dX1_leastOf_12 rfl (lv_at hl 0 rfl) ?_
  refine yg_od S w dX1_leastOf_13 ?_
  refine zi_icmp_ge (tgt := 68) S dX1_leastOf_16 (by decide) (by omega) (by omega) (fun c77 => ?_) (fun c77 => ?_)
  · refine lv_iload_n S.1 S.2.1 dX1_leastOf_68 rfl (lv_at hl 3 rfl) ?_
    obtain rfl : c0 = fact (cnt M) := by omega
    exact yreti (lix, stx) S hr rfl hlk w hlo dX1_leastOf_69
  · refine lv_iload S.1 S.2.1 dX1_leastOf_19 (lv_at hl 4 rfl) ?_
    refine zi_sipush S dX1_leastOf_21 (by decide) ?_
    refine zi_icmp_ge (tgt := 68) S dX1_leastOf_24 (by decide) (by omega) (by omega) (fun c78 => absurd c78 (by omega)) (fun c78 => ?_)
    refine lv_aload_n S.1 S.2.1 dX1_leastOf_27 rfl (lv_at hl 0 rfl) ?_
    refine lv_iload S.1 S.2.1 dX1_leastOf_28 (lv_at hl 4 rfl) ?_
    refine ycalli [] S w fY_spell (mY_spell l th pt lix stx M rel len tl hy hd c0 (by omega)) rfl ⟨Nat.le_of_ble_eq_true rfl, Nat.le_of_ble_eq_true rfl⟩ hl.1 (Nat.le_of_ble_eq_true rfl) rfl ⟨Nat.zero_le _, Nat.zero_le _⟩ dX1_leastOf_30 (fun z u H locs hp w => ?_)
    obtain ⟨li2, st2⟩ := u
    have w : yA D h g A s s.heap th pt (cnt M : Int) (fact (cnt M) : Int) li2 st2 H locs := w
    obtain ⟨hz, hli, hst⟩ := hp
    have hli : ∀ i, i < cnt M → li2 i = (((dec (cnt M) M c0).getD i 0 : Nat) : Int) := hli
    have hst : ∀ j, M.testBit j = true → st2 j = beg rel len 0 (dec (cnt M) M c0) j := hst
    have hord := dec_ord (cnt M) M c0 hM rfl (by omega)
    have hrr := run_rng (tl := tl) hd hM hord
    obtain ⟨ln1, hln⟩ : ∃ x, x = z := ⟨_, rfl⟩
    rw [← hln] at hz ⊢
    refine lv_istore (lv' := [(5, .int (iI ln1)), (0, .ref (h 0)), (1, .int (iI (a : Int))), (2, .int (iI (b : Int))), (3, .int (iI zl)), (4, .int (iI (c0 : Int)))]) S.1 S.2.1 dX1_leastOf_33 hl (by decide) rfl (fun ls hl => ?_)
    refine lv_iload S.1 S.2.1 dX1_leastOf_35 (lv_at hl 0 rfl) ?_
    refine lv_iload_n S.1 S.2.1 dX1_leastOf_37 rfl (lv_at hl 4 rfl) ?_
    refine zi_icmp_ge (tgt := 62) S dX1_leastOf_38 (by decide) (by omega) (by omega) (fun c79 => ?_) (fun c79 => ?_)
    · refine lv_iinc (v := iI ((c0 + 1 : Nat) : Int)) (lv' := [(4, .int (iI ((c0 + 1 : Nat) : Int))), (5, .int (iI ln1)), (0, .ref (h 0)), (1, .int (iI (a : Int))), (2, .int (iI (b : Int))), (3, .int (iI zl))]) S.1 S.2.1 dX1_leastOf_62 hl (k := 5) rfl ((iI_add _ _).trans (congrArg iI (by omega))) (by decide) rfl (fun ls hl => ?_)
      refine lv_goto (tgt := 10) S.1 S.2.1 dX1_leastOf_65 (by decide) ?_
      exact ih _ _ _ _ (by omega) ⟨c0 + 1, zl, li2, st2, rfl, by omega, lo_skip hlo (Or.inl (by omega)), w, lv_sub hl [2, 3, 4, 5, 0] rfl⟩
    · refine lv_iload_n S.1 S.2.1 dX1_leastOf_41 rfl (lv_at hl 2 rfl) ?_
      refine lv_iload_n S.1 S.2.1 dX1_leastOf_42 rfl (lv_at hl 3 rfl) ?_
      refine zi_icmp_eq (tgt := 59) S dX1_leastOf_43 (by decide) (by omega) (by omega) (fun c80 => ?_) (fun c80 => ?_)
      · refine lv_iload S.1 S.2.1 dX1_leastOf_59 (lv_at hl 0 rfl) ?_
        refine lv_istore_n (lv' := [(3, .int (iI ln1)), (5, .int (iI ln1)), (0, .ref (h 0)), (1, .int (iI (a : Int))), (2, .int (iI (b : Int))), (4, .int (iI (c0 : Int)))]) S.1 S.2.1 dX1_leastOf_61 rfl hl (by decide) rfl (fun ls hl => ?_)
        refine lv_iinc (v := iI ((c0 + 1 : Nat) : Int)) (lv' := [(4, .int (iI ((c0 + 1 : Nat) : Int))), (3, .int (iI ln1)), (5, .int (iI ln1)), (0, .ref (h 0)), (1, .int (iI (a : Int))), (2, .int (iI (b : Int)))]) S.1 S.2.1 dX1_leastOf_62 hl (k := 5) rfl ((iI_add _ _).trans (congrArg iI (by omega))) (by decide) rfl (fun ls hl => ?_)
        refine lv_goto (tgt := 10) S.1 S.2.1 dX1_leastOf_65 (by decide) ?_
        exact ih _ _ _ _ (by omega) ⟨c0 + 1, ln1, li2, st2, rfl, by omega, lo_take hlo hz (by omega) (by omega) (Or.inl (by omega)), w, lv_sub hl [3, 4, 5, 1, 0] rfl⟩
      · refine lv_aload_n S.1 S.2.1 dX1_leastOf_46 rfl (lv_at hl 1 rfl) ?_
        refine lv_iload_n S.1 S.2.1 dX1_leastOf_47 rfl (lv_at hl 2 rfl) ?_
        have hab2 : a ≠ b := by omega
        obtain ⟨hMa, hMb⟩ := Or.resolve_left hab hab2
        have hll := isOrd_len _ M hM hord
        have hlr : ∀ i, i < cnt M → 0 ≤ li2 i ∧ li2 i ≤ 5 := fun i hi => by
          have q := (ord_getD hM hord (i := i) (by omega)).1
          rw [hli i hi]
          omega
        refine ycalli [] S w fY_place (mY_place l th pt (fact (cnt M) : Int) li2 st2 (cnt M) hc6 hlr (a : Int) (by omega)) rfl ⟨Nat.le_of_ble_eq_true rfl, Nat.le_of_ble_eq_true rfl⟩ hl.1 (Nat.le_of_ble_eq_true rfl) rfl ⟨Nat.zero_le _, Nat.zero_le _⟩ dX1_leastOf_48 (fun z u H locs hp w => ?_)
        have w : yA D h g A s s.heap th pt (cnt M : Int) (fact (cnt M) : Int) li2 st2 H locs := w
        obtain ⟨z1, rfl⟩ : ∃ x, x = z := ⟨_, rfl⟩
        have hz1 := hp
        have hz1r := pl_r hp hc6
        refine lv_aload_n S.1 S.2.1 dX1_leastOf_51 rfl (lv_at hl 1 rfl) ?_
        refine lv_iload_n S.1 S.2.1 dX1_leastOf_52 rfl (lv_at hl 3 rfl) ?_
        refine ycalli [.int (iI z1)] S w fY_place (mY_place l th pt (fact (cnt M) : Int) li2 st2 (cnt M) hc6 hlr (b : Int) (by omega)) rfl ⟨Nat.le_of_ble_eq_true rfl, Nat.le_of_ble_eq_true rfl⟩ hl.1 (Nat.le_of_ble_eq_true rfl) rfl ⟨Nat.zero_le _, Nat.zero_le _⟩ dX1_leastOf_53 (fun z u H locs hp w => ?_)
        have w : yA D h g A s s.heap th pt (cnt M : Int) (fact (cnt M) : Int) li2 st2 H locs := w
        obtain ⟨z2, rfl⟩ : ∃ x, x = z := ⟨_, rfl⟩
        have hz2 := hp
        have hz2r := pl_r hp hc6
        refine zi_icmp_ge (tgt := 62) S dX1_leastOf_56 (by decide) (by omega) (by omega) (fun c81 => ?_) (fun c81 => ?_)
        · have hbf := pl_before hM hord hli hMa hMb hz1 hz2
          refine lv_iinc (v := iI ((c0 + 1 : Nat) : Int)) (lv' := [(4, .int (iI ((c0 + 1 : Nat) : Int))), (5, .int (iI ln1)), (0, .ref (h 0)), (1, .int (iI (a : Int))), (2, .int (iI (b : Int))), (3, .int (iI zl))]) S.1 S.2.1 dX1_leastOf_62 hl (k := 5) rfl ((iI_add _ _).trans (congrArg iI (by omega))) (by decide) rfl (fun ls hl => ?_)
          refine lv_goto (tgt := 10) S.1 S.2.1 dX1_leastOf_65 (by decide) ?_
          exact ih _ _ _ _ (by omega) ⟨c0 + 1, zl, li2, st2, rfl, by omega, lo_skip hlo (Or.inr (lo_not hab2 hbf (by omega))), w, lv_sub hl [2, 3, 4, 5, 0] rfl⟩
        · have hbf := pl_before hM hord hli hMa hMb hz1 hz2
          refine lv_iload S.1 S.2.1 dX1_leastOf_59 (lv_at hl 0 rfl) ?_
          refine lv_istore_n (lv' := [(3, .int (iI ln1)), (5, .int (iI ln1)), (0, .ref (h 0)), (1, .int (iI (a : Int))), (2, .int (iI (b : Int))), (4, .int (iI (c0 : Int)))]) S.1 S.2.1 dX1_leastOf_61 rfl hl (by decide) rfl (fun ls hl => ?_)
          refine lv_iinc (v := iI ((c0 + 1 : Nat) : Int)) (lv' := [(4, .int (iI ((c0 + 1 : Nat) : Int))), (3, .int (iI ln1)), (5, .int (iI ln1)), (0, .ref (h 0)), (1, .int (iI (a : Int))), (2, .int (iI (b : Int)))]) S.1 S.2.1 dX1_leastOf_62 hl (k := 5) rfl ((iI_add _ _).trans (congrArg iI (by omega))) (by decide) rfl (fun ls hl => ?_)
          refine lv_goto (tgt := 10) S.1 S.2.1 dX1_leastOf_65 (by decide) ?_
          exact ih _ _ _ _ (by omega) ⟨c0 + 1, ln1, li2, st2, rfl, by omega, lo_take hlo hz (by omega) (by omega) (Or.inr (hbf.mp (by omega))), w, lv_sub hl [3, 4, 5, 1, 0] rfl⟩
set_option maxHeartbeats 4000000 in
/-- least() -/
theorem mY_least (l : Launch) (th pt : Nat → Int) (nn od : Int) (li st : Nat → Int) (M : Nat) (rel len tl : Nat → Int) (hy : yOK th pt M rel len tl) (hd : dOK rel len tl) : CYi l yX1_least cX1_least 1 (some .int) 3 78 [] (th, pt, nn, od, li, st) (fun z (_ : ((Nat → Int) × (Nat → Int))) => wMin rel len tl (-1) (-1) M 0 0 0 z) (fun u => (th, pt, (cnt M : Int), (fact (cnt M) : Int), u.1, u.2)) := by
  refine CYi.of (by decide) rfl (fun _ => Nat.le_of_ble_eq_true rfl) ?_
  intro p e s m below meth c D h g A S hr hlk w ls hl
  have hl : lv_has ls 1 [(0, .ref (h 0))] := hl
  have w : yA D h g A s s.heap th pt nn od li st s.heap [] := w
  refine lv_aload_n S.1 S.2.1 dX1_least_0 rfl (lv_at hl 0 rfl) ?_
  refine zi_iconst S dX1_least_1 ?_
  refine zi_iconst S dX1_least_2 ?_
  refine ycalli [] S w fY_leastOf (mY_leastOf l th pt nn od li st M rel len tl hy hd 0 0 (by omega) (by omega) (Or.inl rfl)) rfl ⟨Nat.le_of_ble_eq_true rfl, Nat.le_of_ble_eq_true rfl⟩ hl.1 (Nat.le_of_ble_eq_true rfl) rfl ⟨Nat.zero_le _, Nat.zero_le _⟩ dX1_least_3 (fun z u H locs hp w => ?_)
  obtain ⟨li1, st1⟩ := u
  have w : yA D h g A s s.heap th pt (cnt M : Int) (fact (cnt M) : Int) li1 st1 H locs := w
  have hlo := hp
  obtain ⟨v, rfl⟩ : ∃ x, x = z := ⟨_, rfl⟩
  have hvr := hlo.1
  exact yreti (li1, st1) S hr rfl hlk w (lo_any hy.1 hlo (fun c => Or.inl rfl)) dX1_least_6
set_option maxHeartbeats 4000000 in
/-- best() -/
theorem mY_best (l : Launch) (th pt : Nat → Int) (nn od : Int) (li st : Nat → Int) (M : Nat) (rel len tl : Nat → Int) (hy : yOK th pt M rel len tl) (hd : dOK rel len tl) : CYv l yX1_best cX1_best 3 3 78 [] (th, pt, nn, od, li, st) (fun (u : ((Nat → Int) × (Nat → Int))) => ∃ v, wMin rel len tl (-1) (-1) M 0 0 0 v ∧ ∃ o, fst rel len tl v M 0 0 o ∧ (∀ i, i < cnt M → u.1 i = ((o.getD i 0 : Nat) : Int)) ∧ ∀ j, M.testBit j = true → u.2 j = beg rel len 0 o j) (fun u => (th, pt, (cnt M : Int), (fact (cnt M) : Int), u.1, u.2)) := by
  refine CYv.of (by decide) rfl (fun _ => Nat.le_of_ble_eq_true rfl) ?_
  intro p e s m below meth c D h g A S hr hlk w ls hl
  have hl : lv_has ls 3 [(0, .ref (h 0))] := hl
  have w : yA D h g A s s.heap th pt nn od li st s.heap [] := w
  have hc6 := cnt_le M
  have hf720 := fact_720 hc6
  have hM := hy.1
  refine lv_aload_n S.1 S.2.1 dX1_best_0 rfl (lv_at hl 0 rfl) ?_
  refine zi_iconst S dX1_best_1 ?_
  refine zi_iconst S dX1_best_2 ?_
  refine ycalli [] S w fY_leastOf (mY_leastOf l th pt nn od li st M rel len tl hy hd 0 0 (by omega) (by omega) (Or.inl rfl)) rfl ⟨Nat.le_of_ble_eq_true rfl, Nat.le_of_ble_eq_true rfl⟩ hl.1 (Nat.le_of_ble_eq_true rfl) rfl ⟨Nat.zero_le _, Nat.zero_le _⟩ dX1_best_3 (fun z u H locs hp w => ?_)
  obtain ⟨li1, st1⟩ := u
  have w : yA D h g A s s.heap th pt (cnt M : Int) (fact (cnt M) : Int) li1 st1 H locs := w
  have hlo := hp
  obtain ⟨v, rfl⟩ : ∃ x, x = z := ⟨_, rfl⟩
  have hvr := hlo.1
  refine lv_istore_n (lv' := [(1, .int (iI v)), (0, .ref (h 0))]) S.1 S.2.1 dX1_best_6 rfl hl (by decide) rfl (fun ls hl => ?_)
  refine zi_iconst S dX1_best_7 ?_
  refine lv_istore_n (lv' := [(2, .int (iI 0)), (1, .int (iI v)), (0, .ref (h 0))]) S.1 S.2.1 dX1_best_8 rfl hl (by decide) rfl (fun ls hl => ?_)
  have hm := lo_any hM hlo (fun c => Or.inl rfl)
  obtain ⟨cst, hcst, hcv⟩ := best_ex hd hM hm
  refine W_loop (fun n2 H locs ls => ∃ (c0 : Nat) (lix stx : Nat → Int), n2 = fact (cnt M) - c0 ∧ (∀ c, c < c0 → run rel len tl 0 0 (dec (cnt M) M c) ≠ v) ∧ yA D h g A s s.heap th pt (cnt M : Int) (fact (cnt M) : Int) lix stx H locs ∧ lv_has ls 3 [(0, .ref (h 0)), (1, .int (iI v)), (2, .int (iI (c0 : Int)))]) 9 ?_ (fact (cnt M)) _ _ _ ⟨0, li1, st1, rfl, fun c hc => absurd hc (by omega), w, lv_sub hl [2, 1, 0] rfl⟩
  intro n2 H locs ls hI ih
  obtain ⟨c0, lix, stx, hn2, hall, w, hl⟩ := hI
  have hcc : c0 ≤ cst := by
    rcases Nat.lt_or_ge cst c0 with q | q
    · exact absurd hcv (hall cst q)
    · exact q
  refine lv_iload_n S.1 S.2.1 dX1_best_9 rfl (lv_at hl 2 rfl) ?_
  refine zi_sipush S dX1_best_10 (by decide) ?_
  refine zi_icmp_ge (tgt := 31) S dX1_best_13 (by decide) (by omega) (by omega) (fun c82 => absurd c82 (by omega)) (fun c82 => ?_)
  refine lv_aload_n S.1 S.2.1 dX1_best_16 rfl (lv_at hl 0 rfl) ?_
  refine lv_iload_n S.1 S.2.1 dX1_best_17 rfl (lv_at hl 2 rfl) ?_
  refine ycalli [] S w fY_spell (mY_spell l th pt lix stx M rel len tl hy hd c0 (by omega)) rfl ⟨Nat.le_of_ble_eq_true rfl, Nat.le_of_ble_eq_true rfl⟩ hl.1 (Nat.le_of_ble_eq_true rfl) rfl ⟨Nat.zero_le _, Nat.zero_le _⟩ dX1_best_18 (fun z u H locs hp w => ?_)
  obtain ⟨li2, st2⟩ := u
  have w : yA D h g A s s.heap th pt (cnt M : Int) (fact (cnt M) : Int) li2 st2 H locs := w
  obtain ⟨hz, hli, hst⟩ := hp
  have hli : ∀ i, i < cnt M → li2 i = (((dec (cnt M) M c0).getD i 0 : Nat) : Int) := hli
  have hst : ∀ j, M.testBit j = true → st2 j = beg rel len 0 (dec (cnt M) M c0) j := hst
  have hord := dec_ord (cnt M) M c0 hM rfl (by omega)
  have hrr := run_rng (tl := tl) hd hM hord
  obtain ⟨ln1, hln⟩ : ∃ x, x = z := ⟨_, rfl⟩
  rw [← hln] at hz ⊢
  refine lv_iload_n S.1 S.2.1 dX1_best_21 rfl (lv_at hl 1 rfl) ?_
  refine zi_icmp_eq (tgt := 31) S dX1_best_22 (by decide) (by omega) (by omega) (fun c83 => ?_) (fun c83 => ?_)
  · exact yretv (li2, st2) S hr hlk w ⟨v, hm, _, best_fst hM (by omega) (by omega) hall, hli, hst⟩ dX1_best_31
  · refine lv_iinc (v := iI ((c0 + 1 : Nat) : Int)) (lv' := [(2, .int (iI ((c0 + 1 : Nat) : Int))), (0, .ref (h 0)), (1, .int (iI v))]) S.1 S.2.1 dX1_best_25 hl (k := 2) rfl ((iI_add _ _).trans (congrArg iI (by omega))) (by decide) rfl (fun ls hl => ?_)
    refine lv_goto (tgt := 9) S.1 S.2.1 dX1_best_28 (by decide) ?_
    exact ih _ _ _ _ (by omega) ⟨c0 + 1, li2, st2, rfl, lt_s hall (fun q => c83 (by omega)), w, lv_sub hl [1, 2, 0] rfl⟩
set_option maxHeartbeats 4000000 in
/-- bestAt(k) -/
theorem mY_bestAt (l : Launch) (th pt : Nat → Int) (nn od : Int) (li st : Nat → Int) (M : Nat) (rel len tl : Nat → Int) (hy : yOK th pt M rel len tl) (hd : dOK rel len tl) (k : Int) (hk : -2147483648 ≤ k ∧ k ≤ 2147483647) : CYi l yX1_bestAt cX1_bestAt 2 (some .int) 4 100 [.int (iI k)] (th, pt, nn, od, li, st) (fun z (_ : ((Nat → Int) × (Nat → Int))) => (z = -1 ∧ ¬ (0 ≤ k ∧ k < cnt M)) ∨ ∃ i : Nat, k = (i : Int) ∧ i < cnt M ∧ ∃ v, wMin rel len tl (-1) (-1) M 0 0 0 v ∧ ∃ o, fst rel len tl v M 0 0 o ∧ z = ((o.getD i 0 : Nat) : Int)) (fun u => (th, pt, (cnt M : Int), (fact (cnt M) : Int), u.1, u.2)) := by
  refine CYi.of (by decide) rfl (fun _ => Nat.le_of_ble_eq_true rfl) ?_
  intro p e s m below meth c D h g A S hr hlk w ls hl
  have hl : lv_has ls 2 [(0, .ref (h 0)), (1, .int (iI k))] := hl
  have w : yA D h g A s s.heap th pt nn od li st s.heap [] := w
  have hc6 := cnt_le M
  refine lv_aload_n S.1 S.2.1 dX1_bestAt_0 rfl (lv_at hl 0 rfl) ?_
  refine ycallv [] S w fY_best (mY_best l th pt nn od li st M rel len tl hy hd) rfl ⟨Nat.le_of_ble_eq_true rfl, Nat.le_of_ble_eq_true rfl⟩ hl.1 (Nat.le_of_ble_eq_true rfl) rfl ⟨Nat.zero_le _, Nat.zero_le _⟩ dX1_bestAt_1 (fun u H locs hp w => ?_)
  obtain ⟨li1, st1⟩ := u
  have w : yA D h g A s s.heap th pt (cnt M : Int) (fact (cnt M) : Int) li1 st1 H locs := w
  obtain ⟨v, hm, o, ho, hli, hst⟩ := hp
  have hli : ∀ i, i < cnt M → li1 i = ((o.getD i 0 : Nat) : Int) := hli
  have hst : ∀ j, M.testBit j = true → st1 j = beg rel len 0 o j := hst
  refine lv_iload_n S.1 S.2.1 dX1_bestAt_4 rfl (lv_at hl 1 rfl) ?_
  refine zi_if_lt (tgt := 16) S dX1_bestAt_5 (by decide) (by omega) (fun c84 => ?_) (fun c84 => ?_)
  · refine zi_iconst S dX1_bestAt_16 ?_
    refine lv_goto (tgt := 26) S.1 S.2.1 dX1_bestAt_17 (by decide) ?_
    exact yreti (li1, st1) S hr rfl hlk w (Or.inl ⟨rfl, by omega⟩) dX1_bestAt_26
  · refine lv_iload_n S.1 S.2.1 dX1_bestAt_8 rfl (lv_at hl 1 rfl) ?_
    refine lv_aload_n S.1 S.2.1 dX1_bestAt_9 rfl (lv_at hl 0 rfl) ?_
    refine yg_nn S w dX1_bestAt_10 ?_
    refine zi_icmp_lt (tgt := 20) S dX1_bestAt_13 (by decide) (by omega) (by omega) (fun c85 => ?_) (fun c85 => ?_)
    · obtain ⟨i, rfl⟩ : ∃ i : Nat, k = (i : Int) := ⟨k.toNat, by omega⟩
      refine lv_aload_n S.1 S.2.1 dX1_bestAt_20 rfl (lv_at hl 0 rfl) ?_
      refine yg_li S w dX1_bestAt_21 ?_
      refine lv_iload_n S.1 S.2.1 dX1_bestAt_24 rfl (lv_at hl 1 rfl) ?_
      refine yl_li S w i (by first | rfl | omega) (by omega) dX1_bestAt_25 ?_
      exact yreti (li1, st1) S hr rfl hlk w (Or.inr ⟨i, rfl, by omega, v, hm, o, ho, hli i (by omega)⟩) dX1_bestAt_26
    · refine zi_iconst S dX1_bestAt_16 ?_
      refine lv_goto (tgt := 26) S.1 S.2.1 dX1_bestAt_17 (by decide) ?_
      exact yreti (li1, st1) S hr rfl hlk w (Or.inl ⟨rfl, by omega⟩) dX1_bestAt_26
set_option maxHeartbeats 4000000 in
/-- begins(j) -/
theorem mY_begins (l : Launch) (th pt : Nat → Int) (nn od : Int) (li st : Nat → Int) (M : Nat) (rel len tl : Nat → Int) (hy : yOK th pt M rel len tl) (hd : dOK rel len tl) (j : Int) (hj : -2147483648 ≤ j ∧ j ≤ 2147483647) : CYi l yX1_begins cX1_begins 2 (some .int) 4 100 [.int (iI j)] (th, pt, nn, od, li, st) (fun z (_ : ((Nat → Int) × (Nat → Int))) => (z = -1 ∧ ∀ k : Nat, j = (k : Int) → k < 6 → M.testBit k = false) ∨ ∃ k : Nat, j = (k : Int) ∧ k < 6 ∧ M.testBit k = true ∧ ∃ v, wMin rel len tl (-1) (-1) M 0 0 0 v ∧ ∃ o, fst rel len tl v M 0 0 o ∧ z = beg rel len 0 o k) (fun u => (th, pt, (cnt M : Int), (fact (cnt M) : Int), u.1, u.2)) := by
  refine CYi.of (by decide) rfl (fun _ => Nat.le_of_ble_eq_true rfl) ?_
  intro p e s m below meth c D h g A S hr hlk w ls hl
  have hl : lv_has ls 2 [(0, .ref (h 0)), (1, .int (iI j))] := hl
  have w : yA D h g A s s.heap th pt nn od li st s.heap [] := w
  refine lv_aload_n S.1 S.2.1 dX1_begins_0 rfl (lv_at hl 0 rfl) ?_
  refine ycallv [] S w fY_best (mY_best l th pt nn od li st M rel len tl hy hd) rfl ⟨Nat.le_of_ble_eq_true rfl, Nat.le_of_ble_eq_true rfl⟩ hl.1 (Nat.le_of_ble_eq_true rfl) rfl ⟨Nat.zero_le _, Nat.zero_le _⟩ dX1_begins_1 (fun u H locs hp w => ?_)
  obtain ⟨li1, st1⟩ := u
  have w : yA D h g A s s.heap th pt (cnt M : Int) (fact (cnt M) : Int) li1 st1 H locs := w
  obtain ⟨v, hm, o, ho, hli, hst⟩ := hp
  have hli : ∀ i, i < cnt M → li1 i = ((o.getD i 0 : Nat) : Int) := hli
  have hst : ∀ j, M.testBit j = true → st1 j = beg rel len 0 o j := hst
  refine lv_aload_n S.1 S.2.1 dX1_begins_4 rfl (lv_at hl 0 rfl) ?_
  refine lv_iload_n S.1 S.2.1 dX1_begins_5 rfl (lv_at hl 1 rfl) ?_
  refine ycalli [] S w fY_is (mY_is l th pt (cnt M : Int) (fact (cnt M) : Int) li1 st1 M rel len tl hy j (by omega)) rfl ⟨Nat.le_of_ble_eq_true rfl, Nat.le_of_ble_eq_true rfl⟩ hl.1 (Nat.le_of_ble_eq_true rfl) rfl ⟨Nat.zero_le _, Nat.zero_le _⟩ dX1_begins_6 (fun z u H locs hp w => ?_)
  have w : yA D h g A s s.heap th pt (cnt M : Int) (fact (cnt M) : Int) li1 st1 H locs := w
  rcases hp with ⟨rfl, k, hk, hk6, hkP⟩ | ⟨rfl, hno⟩
  · subst hk
    refine zi_if_eq (tgt := 21) S dX1_begins_9 (by decide) (by omega) (fun c86 => absurd c86 (by omega)) (fun c86 => ?_)
    refine lv_aload_n S.1 S.2.1 dX1_begins_12 rfl (lv_at hl 0 rfl) ?_
    refine yg_st S w dX1_begins_13 ?_
    refine lv_iload_n S.1 S.2.1 dX1_begins_16 rfl (lv_at hl 1 rfl) ?_
    refine yl_st S w k (by first | rfl | omega) (by omega) dX1_begins_17 ?_
    refine lv_goto (tgt := 22) S.1 S.2.1 dX1_begins_18 (by decide) ?_
    exact yreti (li1, st1) S hr rfl hlk w (Or.inr ⟨k, rfl, hk6, hkP, v, hm, o, ho, hst k hkP⟩) dX1_begins_22
  · skip
    refine zi_if_eq (tgt := 21) S dX1_begins_9 (by decide) (by omega) (fun c87 => ?_) (fun c87 => absurd c87 (by omega))
    refine zi_iconst S dX1_begins_21 ?_
    exact yreti (li1, st1) S hr rfl hlk w (Or.inl ⟨rfl, hno⟩) dX1_begins_22
set_option maxHeartbeats 4000000 in
/-- leastWith(i, j) -/
theorem mY_leastWith (l : Launch) (th pt : Nat → Int) (nn od : Int) (li st : Nat → Int) (M : Nat) (rel len tl : Nat → Int) (hy : yOK th pt M rel len tl) (hd : dOK rel len tl) (i j : Int) (hi0 : -2147483648 ≤ i ∧ i ≤ 2147483647) (hj0 : -2147483648 ≤ j ∧ j ≤ 2147483647) : CYi l yX1_leastWith cX1_leastWith 3 (some .int) 3 78 [.int (iI i), .int (iI j)] (th, pt, nn, od, li, st) (fun z (_ : (Int × Int × (Nat → Int) × (Nat → Int))) => (z = -1 ∧ ¬ ∃ a b : Nat, i = (a : Int) ∧ j = (b : Int) ∧ a < 6 ∧ M.testBit a = true ∧ b < 6 ∧ M.testBit b = true ∧ a ≠ b) ∨ ∃ a b : Nat, i = (a : Int) ∧ j = (b : Int) ∧ a < 6 ∧ M.testBit a = true ∧ b < 6 ∧ M.testBit b = true ∧ a ≠ b ∧ wMin rel len tl a b M 0 0 0 z) (fun u => (th, pt, u.1, u.2.1, u.2.2.1, u.2.2.2)) := by
  refine CYi.of (by decide) rfl (fun _ => Nat.le_of_ble_eq_true rfl) ?_
  intro p e s m below meth c D h g A S hr hlk w ls hl
  have hl : lv_has ls 3 [(0, .ref (h 0)), (1, .int (iI i)), (2, .int (iI j))] := hl
  have w : yA D h g A s s.heap th pt nn od li st s.heap [] := w
  refine lv_aload_n S.1 S.2.1 dX1_leastWith_0 rfl (lv_at hl 0 rfl) ?_
  refine lv_iload_n S.1 S.2.1 dX1_leastWith_1 rfl (lv_at hl 1 rfl) ?_
  refine ycalli [] S w fY_is (mY_is l th pt nn od li st M rel len tl hy i (by omega)) rfl ⟨Nat.le_of_ble_eq_true rfl, Nat.le_of_ble_eq_true rfl⟩ hl.1 (Nat.le_of_ble_eq_true rfl) rfl ⟨Nat.zero_le _, Nat.zero_le _⟩ dX1_leastWith_2 (fun z u H locs hp w => ?_)
  have w : yA D h g A s s.heap th pt nn od li st H locs := w
  rcases hp with ⟨rfl, k1, hk1, hk16, hk1P⟩ | ⟨rfl, hno⟩
  · subst hk1
    refine zi_if_eq (tgt := 30) S dX1_leastWith_5 (by decide) (by omega) (fun c88 => absurd c88 (by omega)) (fun c88 => ?_)
    refine lv_aload_n S.1 S.2.1 dX1_leastWith_8 rfl (lv_at hl 0 rfl) ?_
    refine lv_iload_n S.1 S.2.1 dX1_leastWith_9 rfl (lv_at hl 2 rfl) ?_
    refine ycalli [] S w fY_is (mY_is l th pt nn od li st M rel len tl hy j (by omega)) rfl ⟨Nat.le_of_ble_eq_true rfl, Nat.le_of_ble_eq_true rfl⟩ hl.1 (Nat.le_of_ble_eq_true rfl) rfl ⟨Nat.zero_le _, Nat.zero_le _⟩ dX1_leastWith_10 (fun z u H locs hp w => ?_)
    have w : yA D h g A s s.heap th pt nn od li st H locs := w
    rcases hp with ⟨rfl, k2, hk2, hk26, hk2P⟩ | ⟨rfl, hno⟩
    · subst hk2
      refine zi_if_eq (tgt := 30) S dX1_leastWith_13 (by decide) (by omega) (fun c89 => absurd c89 (by omega)) (fun c89 => ?_)
      refine lv_iload_n S.1 S.2.1 dX1_leastWith_16 rfl (lv_at hl 1 rfl) ?_
      refine lv_iload_n S.1 S.2.1 dX1_leastWith_17 rfl (lv_at hl 2 rfl) ?_
      refine zi_icmp_eq (tgt := 30) S dX1_leastWith_18 (by decide) (by omega) (by omega) (fun c90 => ?_) (fun c90 => ?_)
      · refine zi_iconst S dX1_leastWith_30 ?_
        exact yreti (nn, od, li, st) S hr rfl hlk w (Or.inl ⟨rfl, (fun q => by obtain ⟨a, b, e1, e2, e3, e4, e5, e6, e7⟩ := q; omega)⟩) dX1_leastWith_31
      · refine lv_aload_n S.1 S.2.1 dX1_leastWith_21 rfl (lv_at hl 0 rfl) ?_
        refine lv_iload_n S.1 S.2.1 dX1_leastWith_22 rfl (lv_at hl 1 rfl) ?_
        refine lv_iload_n S.1 S.2.1 dX1_leastWith_23 rfl (lv_at hl 2 rfl) ?_
        refine ycalli [] S w fY_leastOf (mY_leastOf l th pt nn od li st M rel len tl hy hd k1 k2 (by omega) (by omega) (Or.inr ⟨hk1P, hk2P⟩)) rfl ⟨Nat.le_of_ble_eq_true rfl, Nat.le_of_ble_eq_true rfl⟩ hl.1 (Nat.le_of_ble_eq_true rfl) rfl ⟨Nat.zero_le _, Nat.zero_le _⟩ dX1_leastWith_24 (fun z u H locs hp w => ?_)
        obtain ⟨li1, st1⟩ := u
        have w : yA D h g A s s.heap th pt (cnt M : Int) (fact (cnt M) : Int) li1 st1 H locs := w
        have hlo := hp
        obtain ⟨v, rfl⟩ : ∃ x, x = z := ⟨_, rfl⟩
        have hvr := hlo.1
        refine lv_goto (tgt := 31) S.1 S.2.1 dX1_leastWith_27 (by decide) ?_
        exact yreti ((cnt M : Int), (fact (cnt M) : Int), li1, st1) S hr rfl hlk w (Or.inr ⟨k1, k2, rfl, rfl, hk16, hk1P, hk26, hk2P, by omega, lo_two hy.1 (by omega) hk1P hk2P hlo⟩) dX1_leastWith_31
    · skip
      refine zi_if_eq (tgt := 30) S dX1_leastWith_13 (by decide) (by omega) (fun c91 => ?_) (fun c91 => absurd c91 (by omega))
      refine zi_iconst S dX1_leastWith_30 ?_
      exact yreti (nn, od, li, st) S hr rfl hlk w (Or.inl ⟨rfl, (fun q => by obtain ⟨a, b, e1, e2, e3, e4, e5, e6, e7⟩ := q; have := hno b e2 e5; rw [this] at e6; cases e6)⟩) dX1_leastWith_31
  · skip
    refine zi_if_eq (tgt := 30) S dX1_leastWith_5 (by decide) (by omega) (fun c92 => ?_) (fun c92 => absurd c92 (by omega))
    refine zi_iconst S dX1_leastWith_30 ?_
    exact yreti (nn, od, li, st) S hr rfl hlk w (Or.inl ⟨rfl, (fun q => by obtain ⟨a, b, e1, e2, e3, e4, e5, e6, e7⟩ := q; have := hno a e1 e3; rw [this] at e4; cases e4)⟩) dX1_leastWith_31
set_option maxHeartbeats 4000000 in
/-- leastFirst(j) -/
theorem mY_leastFirst (l : Launch) (th pt : Nat → Int) (nn od : Int) (li st : Nat → Int) (M : Nat) (rel len tl : Nat → Int) (hy : yOK th pt M rel len tl) (hd : dOK rel len tl) (j : Int) (hj : -2147483648 ≤ j ∧ j ≤ 2147483647) : CYi l yX1_leastFirst cX1_leastFirst 5 (some .int) 2 53 [.int (iI j)] (th, pt, nn, od, li, st) (fun z (_ : (Int × Int × (Nat → Int) × (Nat → Int))) => (z = -1 ∧ ∀ k : Nat, j = (k : Int) → k < 6 → M.testBit k = false) ∨ ∃ k : Nat, j = (k : Int) ∧ k < 6 ∧ M.testBit k = true ∧ wMin rel len tl (-1) (-1) (sd M (2 ^ k)) (2 ^ k) (nx rel len 0 k) (max 0 (nx rel len 0 k + tl k)) z) (fun u => (th, pt, u.1, u.2.1, u.2.2.1, u.2.2.2)) := by
  refine CYi.of (by decide) rfl (fun _ => Nat.le_of_ble_eq_true rfl) ?_
  intro p e s m below meth c D h g A S hr hlk w ls hl
  have hl : lv_has ls 5 [(0, .ref (h 0)), (1, .int (iI j))] := hl
  have w : yA D h g A s s.heap th pt nn od li st s.heap [] := w
  have hc6 := cnt_le M
  have hf720 := fact_720 hc6
  have hM := hy.1
  refine lv_aload_n S.1 S.2.1 dX1_leastFirst_0 rfl (lv_at hl 0 rfl) ?_
  refine lv_iload_n S.1 S.2.1 dX1_leastFirst_1 rfl (lv_at hl 1 rfl) ?_
  refine ycalli [] S w fY_is (mY_is l th pt nn od li st M rel len tl hy j (by omega)) rfl ⟨Nat.le_of_ble_eq_true rfl, Nat.le_of_ble_eq_true rfl⟩ hl.1 (Nat.le_of_ble_eq_true rfl) rfl ⟨Nat.zero_le _, Nat.zero_le _⟩ dX1_leastFirst_2 (fun z u H locs hp w => ?_)
  have w : yA D h g A s s.heap th pt nn od li st H locs := w
  rcases hp with ⟨rfl, k, hk, hk6, hkP⟩ | ⟨rfl, hno⟩
  · subst hk
    refine zi_if_ne (tgt := 10) S dX1_leastFirst_5 (by decide) (by omega) (fun c93 => ?_) (fun c93 => absurd c93 (by omega))
    refine lv_aload_n S.1 S.2.1 dX1_leastFirst_10 rfl (lv_at hl 0 rfl) ?_
    refine ycallv [] S w fY_count (mY_count l th pt nn od li st M rel len tl hy) rfl ⟨Nat.le_of_ble_eq_true rfl, Nat.le_of_ble_eq_true rfl⟩ hl.1 (Nat.le_of_ble_eq_true rfl) rfl ⟨Nat.zero_le _, Nat.zero_le _⟩ dX1_leastFirst_11 (fun u H locs hp w => ?_)
    have w : yA D h g A s s.heap th pt (cnt M : Int) (fact (cnt M) : Int) li st H locs := w
    refine zi_ldc (v := 100000) S q255 dX1_leastFirst_14 ?_
    refine lv_istore_n (lv' := [(2, .int (iI 100000)), (0, .ref (h 0)), (1, .int (iI (k : Int)))]) S.1 S.2.1 dX1_leastFirst_16 rfl hl (by decide) rfl (fun ls hl => ?_)
    refine zi_iconst S dX1_leastFirst_17 ?_
    refine lv_istore_n (lv' := [(3, .int (iI 0)), (2, .int (iI 100000)), (0, .ref (h 0)), (1, .int (iI (k : Int)))]) S.1 S.2.1 dX1_leastFirst_18 rfl hl (by decide) rfl (fun ls hl => ?_)
    have hcn := cnt_one hk6 hkP
    refine W_loop (fun n2 H locs ls => ∃ (c0 : Nat) (zl : Int) (lix stx : Nat → Int), n2 = fact (cnt M) - c0 ∧ c0 ≤ fact (cnt M) ∧ loInv rel len tl M (okF M k) c0 zl ∧ yA D h g A s s.heap th pt (cnt M : Int) (fact (cnt M) : Int) lix stx H locs ∧ lv_has ls 5 [(0, .ref (h 0)), (1, .int (iI (k : Int))), (2, .int (iI zl)), (3, .int (iI (c0 : Int)))]) 19 ?_ (fact (cnt M)) _ _ _ ⟨0, 100000, li, st, rfl, by omega, lo_0 _ _ _ _ _, w, lv_sub hl [2, 3, 1, 0] rfl⟩
    intro n2 H locs ls hI ih
    obtain ⟨c0, zl, lix, stx, hn2, hcf, hlo, w, hl⟩ := hI
    have hzr := hlo.1
    refine lv_iload_n S.1 S.2.1 dX1_leastFirst_19 rfl (lv_at hl 3 rfl) ?_
    refine lv_aload_n S.1 S.2.1 dX1_leastFirst_20 rfl (lv_at hl 0 rfl) ?_
    refine yg_od S w dX1_leastFirst_21 ?_
    refine zi_icmp_ge (tgt := 70) S dX1_leastFirst_24 (by decide) (by omega) (by omega) (fun c94 => ?_) (fun c94 => ?_)
    · refine lv_iload_n S.1 S.2.1 dX1_leastFirst_70 rfl (lv_at hl 2 rfl) ?_
      obtain rfl : c0 = fact (cnt M) := by omega
      exact yreti ((cnt M : Int), (fact (cnt M) : Int), lix, stx) S hr rfl hlk w (Or.inr ⟨k, rfl, hk6, hkP, lo_first hM hkP hlo⟩) dX1_leastFirst_71
    · refine lv_iload_n S.1 S.2.1 dX1_leastFirst_27 rfl (lv_at hl 3 rfl) ?_
      refine zi_sipush S dX1_leastFirst_28 (by decide) ?_
      refine zi_icmp_ge (tgt := 70) S dX1_leastFirst_31 (by decide) (by omega) (by omega) (fun c95 => absurd c95 (by omega)) (fun c95 => ?_)
      refine lv_aload_n S.1 S.2.1 dX1_leastFirst_34 rfl (lv_at hl 0 rfl) ?_
      refine lv_iload_n S.1 S.2.1 dX1_leastFirst_35 rfl (lv_at hl 3 rfl) ?_
      refine ycalli [] S w fY_spell (mY_spell l th pt lix stx M rel len tl hy hd c0 (by omega)) rfl ⟨Nat.le_of_ble_eq_true rfl, Nat.le_of_ble_eq_true rfl⟩ hl.1 (Nat.le_of_ble_eq_true rfl) rfl ⟨Nat.zero_le _, Nat.zero_le _⟩ dX1_leastFirst_36 (fun z u H locs hp w => ?_)
      obtain ⟨li2, st2⟩ := u
      have w : yA D h g A s s.heap th pt (cnt M : Int) (fact (cnt M) : Int) li2 st2 H locs := w
      obtain ⟨hz, hli, hst⟩ := hp
      have hli : ∀ i, i < cnt M → li2 i = (((dec (cnt M) M c0).getD i 0 : Nat) : Int) := hli
      have hst : ∀ j, M.testBit j = true → st2 j = beg rel len 0 (dec (cnt M) M c0) j := hst
      have hord := dec_ord (cnt M) M c0 hM rfl (by omega)
      have hrr := run_rng (tl := tl) hd hM hord
      obtain ⟨ln1, hln⟩ : ∃ x, x = z := ⟨_, rfl⟩
      rw [← hln] at hz ⊢
      refine lv_istore (lv' := [(4, .int (iI ln1)), (0, .ref (h 0)), (1, .int (iI (k : Int))), (2, .int (iI zl)), (3, .int (iI (c0 : Int)))]) S.1 S.2.1 dX1_leastFirst_39 hl (by decide) rfl (fun ls hl => ?_)
      refine lv_aload_n S.1 S.2.1 dX1_leastFirst_41 rfl (lv_at hl 1 rfl) ?_
      refine yg_li S w dX1_leastFirst_42 ?_
      refine zi_iconst S dX1_leastFirst_45 ?_
      refine yl_li S w 0 (by first | rfl | omega) (by omega) dX1_leastFirst_46 ?_
      refine W_is (((dec (cnt M) M c0).getD 0 0 : Nat) : Int) (hli 0 (by omega)) ?_
      have hll := isOrd_len _ M hM hord
      have hx6 := (ord_getD hM hord (i := 0) (by omega)).1
      refine lv_iload_n S.1 S.2.1 dX1_leastFirst_47 rfl (lv_at hl 2 rfl) ?_
      refine zi_icmp_ne (tgt := 62) S dX1_leastFirst_48 (by decide) (by omega) (by omega) (fun c96 => ?_) (fun c96 => ?_)
      · refine lv_iload_n S.1 S.2.1 dX1_leastFirst_62 rfl (lv_at hl 3 rfl) ?_
        refine lv_istore_n (lv' := [(2, .int (iI zl)), (4, .int (iI ln1)), (0, .ref (h 0)), (1, .int (iI (k : Int))), (3, .int (iI (c0 : Int)))]) S.1 S.2.1 dX1_leastFirst_63 rfl hl (by decide) rfl (fun ls hl => ?_)
        refine lv_iinc (v := iI ((c0 + 1 : Nat) : Int)) (lv' := [(3, .int (iI ((c0 + 1 : Nat) : Int))), (2, .int (iI zl)), (4, .int (iI ln1)), (0, .ref (h 0)), (1, .int (iI (k : Int)))]) S.1 S.2.1 dX1_leastFirst_64 hl (k := 4) rfl ((iI_add _ _).trans (congrArg iI (by omega))) (by decide) rfl (fun ls hl => ?_)
        refine lv_goto (tgt := 19) S.1 S.2.1 dX1_leastFirst_67 (by decide) ?_
        exact ih _ _ _ _ (by omega) ⟨c0 + 1, zl, li2, st2, rfl, by omega, lo_skip hlo (Or.inr (fun q => by unfold okF at q; omega)), w, lv_sub hl [3, 4, 1, 0] rfl⟩
      · refine lv_iload S.1 S.2.1 dX1_leastFirst_51 (lv_at hl 0 rfl) ?_
        refine lv_iload_n S.1 S.2.1 dX1_leastFirst_53 rfl (lv_at hl 3 rfl) ?_
        refine zi_icmp_ge (tgt := 62) S dX1_leastFirst_54 (by decide) (by omega) (by omega) (fun c97 => ?_) (fun c97 => ?_)
        · refine lv_iload_n S.1 S.2.1 dX1_leastFirst_62 rfl (lv_at hl 3 rfl) ?_
          refine lv_istore_n (lv' := [(2, .int (iI zl)), (4, .int (iI ln1)), (0, .ref (h 0)), (1, .int (iI (k : Int))), (3, .int (iI (c0 : Int)))]) S.1 S.2.1 dX1_leastFirst_63 rfl hl (by decide) rfl (fun ls hl => ?_)
          refine lv_iinc (v := iI ((c0 + 1 : Nat) : Int)) (lv' := [(3, .int (iI ((c0 + 1 : Nat) : Int))), (2, .int (iI zl)), (4, .int (iI ln1)), (0, .ref (h 0)), (1, .int (iI (k : Int)))]) S.1 S.2.1 dX1_leastFirst_64 hl (k := 4) rfl ((iI_add _ _).trans (congrArg iI (by omega))) (by decide) rfl (fun ls hl => ?_)
          refine lv_goto (tgt := 19) S.1 S.2.1 dX1_leastFirst_67 (by decide) ?_
          exact ih _ _ _ _ (by omega) ⟨c0 + 1, zl, li2, st2, rfl, by omega, lo_skip hlo (Or.inl (by omega)), w, lv_sub hl [3, 4, 1, 0] rfl⟩
        · refine lv_iload S.1 S.2.1 dX1_leastFirst_57 (lv_at hl 0 rfl) ?_
          refine lv_goto (tgt := 63) S.1 S.2.1 dX1_leastFirst_59 (by decide) ?_
          refine lv_istore_n (lv' := [(2, .int (iI ln1)), (4, .int (iI ln1)), (0, .ref (h 0)), (1, .int (iI (k : Int))), (3, .int (iI (c0 : Int)))]) S.1 S.2.1 dX1_leastFirst_63 rfl hl (by decide) rfl (fun ls hl => ?_)
          refine lv_iinc (v := iI ((c0 + 1 : Nat) : Int)) (lv' := [(3, .int (iI ((c0 + 1 : Nat) : Int))), (2, .int (iI ln1)), (4, .int (iI ln1)), (0, .ref (h 0)), (1, .int (iI (k : Int)))]) S.1 S.2.1 dX1_leastFirst_64 hl (k := 4) rfl ((iI_add _ _).trans (congrArg iI (by omega))) (by decide) rfl (fun ls hl => ?_)
          refine lv_goto (tgt := 19) S.1 S.2.1 dX1_leastFirst_67 (by decide) ?_
          exact ih _ _ _ _ (by omega) ⟨c0 + 1, ln1, li2, st2, rfl, by omega, lo_take hlo hz (by omega) (by omega) (by unfold okF; omega), w, lv_sub hl [3, 4, 1, 0] rfl⟩
  · skip
    refine zi_if_ne (tgt := 10) S dX1_leastFirst_5 (by decide) (by omega) (fun c98 => absurd c98 (by omega)) (fun c98 => ?_)
    refine zi_iconst S dX1_leastFirst_8 ?_
    exact yreti (nn, od, li, st) S hr rfl hlk w (Or.inl ⟨rfl, hno⟩) dX1_leastFirst_9
set_option maxHeartbeats 4000000 in
/-- interrupted() -/
theorem mY_interrupted (l : Launch) (th pt : Nat → Int) (nn od : Int) (li st : Nat → Int) (M : Nat) (rel len tl : Nat → Int) (hy : yOK th pt M rel len tl) (hd : dOK rel len tl) (h40 : ∀ j, j < 6 → rel j ≤ 40 ∧ tl j ≤ 40) : CYi l yX1_interrupted cX1_interrupted 4 (some .int) 1 25 [] (th, pt, nn, od, li, st) (fun z _ => jpsIs rel len tl M 0 z) (fun (_ : Unit) => (th, pt, nn, od, li, st)) := by
  refine CYi.of (by decide) rfl (fun _ => Nat.le_of_ble_eq_true rfl) ?_
  intro p e s m below meth c D h g A S hr hlk w ls hl
  have hl : lv_has ls 4 [(0, .ref (h 0))] := hl
  have w : yA D h g A s s.heap th pt nn od li st s.heap [] := w
  have hM := hy.1
  refine zi_iconst S dX1_interrupted_0 ?_
  refine lv_istore_n (lv' := [(1, .int (iI 0)), (0, .ref (h 0))]) S.1 S.2.1 dX1_interrupted_1 rfl hl (by decide) rfl (fun ls hl => ?_)
  refine zi_iconst S dX1_interrupted_2 ?_
  refine lv_istore_n (lv' := [(2, .int (iI 1)), (1, .int (iI 0)), (0, .ref (h 0))]) S.1 S.2.1 dX1_interrupted_3 rfl hl (by decide) rfl (fun ls hl => ?_)
  refine W_loop (fun n2 H locs ls => ∃ (R : Nat) (z : Int), n2 = 64 - R ∧ 1 ≤ R ∧ R ≤ 64 ∧ (0 ≤ z ∧ z ≤ 1000) ∧ itInv rel len tl M R z ∧ yA D h g A s s.heap th pt nn od li st H locs ∧ lv_has ls 4 [(0, .ref (h 0)), (1, .int (iI z)), (2, .int (iI (R : Int)))]) 4 ?_ 63 _ _ _ ⟨1, 0, rfl, by omega, by omega, by omega, ⟨by omega, fun R h1 h2 => absurd h1 (by omega), Or.inl rfl⟩, w, lv_sub hl [2, 1, 0] rfl⟩
  intro n2 H locs ls hI ih
  obtain ⟨R, z, hn2, hR1, hR64, hzr, hit, w, hl⟩ := hI
  refine lv_iload_n S.1 S.2.1 dX1_interrupted_4 rfl (lv_at hl 2 rfl) ?_
  refine zi_bipush S dX1_interrupted_5 (by decide) ?_
  refine zi_icmp_ge (tgt := 44) S dX1_interrupted_7 (by decide) (by omega) (by omega) (fun c99 => ?_) (fun c99 => ?_)
  · refine lv_iload_n S.1 S.2.1 dX1_interrupted_44 rfl (lv_at hl 1 rfl) ?_
    obtain rfl : R = 64 := by omega
    exact yreti () S hr rfl hlk w (it_end (fun j hj => ⟨(hd j hj).1, (h40 j hj).1⟩) (fun j hj => (h40 j hj).2) hit) dX1_interrupted_45
  · refine lv_aload_n S.1 S.2.1 dX1_interrupted_10 rfl (lv_at hl 0 rfl) ?_
    refine lv_iload_n S.1 S.2.1 dX1_interrupted_11 rfl (lv_at hl 2 rfl) ?_
    refine ycalli [] S w fY_bound (mY_bound l th pt nn od li st M rel len tl hy hd h40 R (by omega)) rfl ⟨Nat.le_of_ble_eq_true rfl, Nat.le_of_ble_eq_true rfl⟩ hl.1 (Nat.le_of_ble_eq_true rfl) rfl ⟨Nat.zero_le _, Nat.zero_le _⟩ dX1_interrupted_12 (fun zz u H locs hp w => ?_)
    have w : yA D h g A s s.heap th pt nn od li st H locs := w
    obtain ⟨hbd, hyr⟩ := hp
    obtain ⟨zb, hzb⟩ : ∃ x, x = zz := ⟨_, rfl⟩
    rw [← hzb] at hbd hyr ⊢
    refine lv_istore_n (lv' := [(3, .int (iI zb)), (0, .ref (h 0)), (1, .int (iI z)), (2, .int (iI (R : Int)))]) S.1 S.2.1 dX1_interrupted_15 rfl hl (by decide) rfl (fun ls hl => ?_)
    refine lv_iload_n S.1 S.2.1 dX1_interrupted_16 rfl (lv_at hl 3 rfl) ?_
    refine lv_aload_n S.1 S.2.1 dX1_interrupted_17 rfl (lv_at hl 1 rfl) ?_
    refine ycalli [.int (iI (R : Int))] S w fY_jobs (mY_jobs l th pt nn od li st M rel len tl hy) rfl ⟨Nat.le_of_ble_eq_true rfl, Nat.le_of_ble_eq_true rfl⟩ hl.1 (Nat.le_of_ble_eq_true rfl) rfl ⟨Nat.zero_le _, Nat.zero_le _⟩ dX1_interrupted_18 (fun z u H locs hp w => ?_)
    subst hp
    have w : yA D h g A s s.heap th pt nn od li st H locs := w
    refine zi_andnot S R M (by first | rfl | omega) (by first | rfl | omega) dX1_interrupted_21 dX1_interrupted_22 dX1_interrupted_23 ?_
    have hsd : sd R M < 64 := sd_lt _ (by omega)
    refine zi_if_ne (tgt := 36) S dX1_interrupted_24 (by decide) (by omega) (fun c100 => ?_) (fun c100 => ?_)
    · refine lv_iload_n S.1 S.2.1 dX1_interrupted_36 rfl (lv_at hl 2 rfl) ?_
      refine lv_istore_n (lv' := [(1, .int (iI z)), (3, .int (iI zb)), (0, .ref (h 0)), (2, .int (iI (R : Int)))]) S.1 S.2.1 dX1_interrupted_37 rfl hl (by decide) rfl (fun ls hl => ?_)
      refine lv_iinc (v := iI ((R + 1 : Nat) : Int)) (lv' := [(2, .int (iI ((R + 1 : Nat) : Int))), (1, .int (iI z)), (3, .int (iI zb)), (0, .ref (h 0))]) S.1 S.2.1 dX1_interrupted_38 hl (k := 3) rfl ((iI_add _ _).trans (congrArg iI (by omega))) (by decide) rfl (fun ls hl => ?_)
      refine lv_goto (tgt := 4) S.1 S.2.1 dX1_interrupted_41 (by decide) ?_
      exact ih _ _ _ _ (by omega) ⟨R + 1, z, rfl, by omega, by omega, by omega, it_skip hit hbd (Or.inl (by omega)), w, lv_sub hl [3, 1, 0] rfl⟩
    · refine lv_iload_n S.1 S.2.1 dX1_interrupted_27 rfl (lv_at hl 0 rfl) ?_
      refine lv_iload_n S.1 S.2.1 dX1_interrupted_28 rfl (lv_at hl 2 rfl) ?_
      refine zi_icmp_le (tgt := 36) S dX1_interrupted_29 (by decide) (by omega) (by omega) (fun c101 => ?_) (fun c101 => ?_)
      · refine lv_iload_n S.1 S.2.1 dX1_interrupted_36 rfl (lv_at hl 2 rfl) ?_
        refine lv_istore_n (lv' := [(1, .int (iI z)), (3, .int (iI zb)), (0, .ref (h 0)), (2, .int (iI (R : Int)))]) S.1 S.2.1 dX1_interrupted_37 rfl hl (by decide) rfl (fun ls hl => ?_)
        refine lv_iinc (v := iI ((R + 1 : Nat) : Int)) (lv' := [(2, .int (iI ((R + 1 : Nat) : Int))), (1, .int (iI z)), (3, .int (iI zb)), (0, .ref (h 0))]) S.1 S.2.1 dX1_interrupted_38 hl (k := 3) rfl ((iI_add _ _).trans (congrArg iI (by omega))) (by decide) rfl (fun ls hl => ?_)
        refine lv_goto (tgt := 4) S.1 S.2.1 dX1_interrupted_41 (by decide) ?_
        exact ih _ _ _ _ (by omega) ⟨R + 1, z, rfl, by omega, by omega, by omega, it_skip hit hbd (Or.inr (by omega)), w, lv_sub hl [3, 1, 0] rfl⟩
      · refine lv_iload_n S.1 S.2.1 dX1_interrupted_32 rfl (lv_at hl 0 rfl) ?_
        refine lv_goto (tgt := 37) S.1 S.2.1 dX1_interrupted_33 (by decide) ?_
        refine lv_istore_n (lv' := [(1, .int (iI zb)), (3, .int (iI zb)), (0, .ref (h 0)), (2, .int (iI (R : Int)))]) S.1 S.2.1 dX1_interrupted_37 rfl hl (by decide) rfl (fun ls hl => ?_)
        refine lv_iinc (v := iI ((R + 1 : Nat) : Int)) (lv' := [(2, .int (iI ((R + 1 : Nat) : Int))), (1, .int (iI zb)), (3, .int (iI zb)), (0, .ref (h 0))]) S.1 S.2.1 dX1_interrupted_38 hl (k := 3) rfl ((iI_add _ _).trans (congrArg iI (by omega))) (by decide) rfl (fun ls hl => ?_)
        refine lv_goto (tgt := 4) S.1 S.2.1 dX1_interrupted_41 (by decide) ?_
        exact ih _ _ _ _ (by omega) ⟨R + 1, zb, rfl, by omega, by omega, by omega, it_take hit hR1 hbd (by omega) (by omega), w, lv_sub hl [3, 1, 0] rfl⟩
end
section
/-! HeadTailModel: the greatest value of a part -/
set_option maxRecDepth 100000
set_option maxHeartbeats 4000000 in
/-- greatest(j, 2, lim) -/
theorem mY_greatest2 (l : Launch) (th pt : Nat → Int) (nn od : Int) (li st : Nat → Int) (M : Nat) (rel len tl : Nat → Int) (hy : yOK th pt M rel len tl) (hd : dOK rel len tl) (j lim : Int) (hj0 : -2147483648 ≤ j ∧ j ≤ 2147483647) (hlim0 : -2147483648 ≤ lim ∧ lim ≤ 2147483647) : CYi l yX1_greatest cX1_greatest 8 (some .int) 2 53 [.int (iI j), .int (iI 2), .int (iI lim)] (th, pt, nn, od, li, st) (fun z (_ : (Int × Int × (Nat → Int) × (Nat → Int))) => (z = -1 ∧ ∀ k : Nat, j = (k : Int) → k < 6 → M.testBit k = false) ∨ ∃ k : Nat, j = (k : Int) ∧ k < 6 ∧ M.testBit k = true ∧ gIs (fun v => fits_ rel len (updZ tl k v) M lim) z) (fun u => (th, pt, u.1, u.2.1, u.2.2.1, u.2.2.2)) := by
  refine CYi.of (by decide) rfl (fun _ => Nat.le_of_ble_eq_true rfl) ?_
  intro p e s m below meth c D h g A S hr hlk w ls hl
  have hl : lv_has ls 8 [(0, .ref (h 0)), (1, .int (iI j)), (2, .int (iI 2)), (3, .int (iI lim))] := hl
  have w : yA D h g A s s.heap th pt nn od li st s.heap [] := w
  have hc6 := cnt_le M
  have hf720 := fact_720 hc6
  have hM := hy.1
  refine lv_aload_n S.1 S.2.1 dX1_greatest_0 rfl (lv_at hl 0 rfl) ?_
  refine lv_iload_n S.1 S.2.1 dX1_greatest_1 rfl (lv_at hl 1 rfl) ?_
  refine ycalli [] S w fY_is (mY_is l th pt nn od li st M rel len tl hy j (by omega)) rfl ⟨Nat.le_of_ble_eq_true rfl, Nat.le_of_ble_eq_true rfl⟩ hl.1 (Nat.le_of_ble_eq_true rfl) rfl ⟨Nat.zero_le _, Nat.zero_le _⟩ dX1_greatest_2 (fun z u H locs hp w => ?_)
  have w : yA D h g A s s.heap th pt nn od li st H locs := w
  rcases hp with ⟨rfl, k, hk, hk6, hkP⟩ | ⟨rfl, hno⟩
  · subst hk
    refine zi_if_ne (tgt := 10) S dX1_greatest_5 (by decide) (by omega) (fun c102 => ?_) (fun c102 => absurd c102 (by omega))
    refine lv_aload_n S.1 S.2.1 dX1_greatest_10 rfl (lv_at hl 0 rfl) ?_
    refine ycallv [] S w fY_count (mY_count l th pt nn od li st M rel len tl hy) rfl ⟨Nat.le_of_ble_eq_true rfl, Nat.le_of_ble_eq_true rfl⟩ hl.1 (Nat.le_of_ble_eq_true rfl) rfl ⟨Nat.zero_le _, Nat.zero_le _⟩ dX1_greatest_11 (fun u H locs hp w => ?_)
    have w : yA D h g A s s.heap th pt (cnt M : Int) (fact (cnt M) : Int) li st H locs := w
    refine lv_aload_n S.1 S.2.1 dX1_greatest_14 rfl (lv_at hl 0 rfl) ?_
    refine yg_pt S w dX1_greatest_15 ?_
    refine zi_iconst S dX1_greatest_18 ?_
    refine lv_iload_n S.1 S.2.1 dX1_greatest_19 rfl (lv_at hl 1 rfl) ?_
    refine zi_imul S dX1_greatest_20 ?_
    refine lv_iload_n S.1 S.2.1 dX1_greatest_21 rfl (lv_at hl 2 rfl) ?_
    refine zi_iadd S dX1_greatest_22 ?_
    refine yl_pt S w ((3 * k) + 2) (by first | rfl | omega) (by omega) dX1_greatest_23 ?_
    refine lv_istore (lv' := [(4, .int (iI (pt (3 * k + 2)))), (0, .ref (h 0)), (1, .int (iI (k : Int))), (2, .int (iI 2)), (3, .int (iI lim))]) S.1 S.2.1 dX1_greatest_24 hl (by decide) rfl (fun ls hl => ?_)
    refine zi_iconst S dX1_greatest_26 ?_
    refine lv_istore (lv' := [(5, .int (iI (-1))), (4, .int (iI (pt (3 * k + 2)))), (0, .ref (h 0)), (1, .int (iI (k : Int))), (2, .int (iI 2)), (3, .int (iI lim))]) S.1 S.2.1 dX1_greatest_27 hl (by decide) rfl (fun ls hl => ?_)
    refine W_meet (ls := ls) (rest := []) (fun v => v = min lim 200) 43 (fun v0 hv0 => ?_) (fun K => ?_)
    · skip
      refine lv_istore (lv' := [(6, .int (iI v0)), (5, .int (iI (-1))), (4, .int (iI (pt (3 * k + 2)))), (0, .ref (h 0)), (1, .int (iI (k : Int))), (2, .int (iI 2)), (3, .int (iI lim))]) S.1 S.2.1 dX1_greatest_43 hl (by decide) rfl (fun ls hl => ?_)
      refine W_loop (fun n2 H locs ls => ∃ (v f : Int) (ptx lix stx : Nat → Int), n2 = (v + 1).toNat ∧ v ≤ 200 ∧ -2147483648 ≤ v ∧ grInv (fun v => fits_ rel len (updZ tl k v) M lim) v f ∧ (∀ i, i ≠ (3 * k + 2) → ptx i = pt i) ∧ yA D h g A s s.heap th ptx (cnt M : Int) (fact (cnt M) : Int) lix stx H locs ∧ lv_has ls 8 [(0, .ref (h 0)), (1, .int (iI (k : Int))), (2, .int (iI 2)), (3, .int (iI lim)), (4, .int (iI (pt (3 * k + 2)))), (5, .int (iI f)), (6, .int (iI v))]) 45 ?_ (v0 + 1).toNat _ _ _ ⟨v0, -1, pt, li, st, rfl, by omega, by omega, Or.inl ⟨rfl, fun v1 h1 h2 => far_tl hd hk6 hkP (by omega)⟩, fun i _ => rfl, w, lv_sub hl [3, 4, 5, 6, 2, 1, 0] rfl⟩
      intro n2 H locs ls hI ih
      obtain ⟨v, f, ptx, lix, stx, hn2, hv2, hv1, hgr, hptx, w, hl⟩ := hI
      have hfr := gr_r hgr
      refine lv_iload S.1 S.2.1 dX1_greatest_45 (lv_at hl 6 rfl) ?_
      refine zi_if_lt (tgt := 123) S dX1_greatest_47 (by decide) (by omega) (fun c103 => ?_) (fun c103 => ?_)
      · refine lv_aload_n S.1 S.2.1 dX1_greatest_123 rfl (lv_at hl 0 rfl) ?_
        refine yg_pt S w dX1_greatest_124 ?_
        refine zi_iconst S dX1_greatest_127 ?_
        refine lv_iload_n S.1 S.2.1 dX1_greatest_128 rfl (lv_at hl 1 rfl) ?_
        refine zi_imul S dX1_greatest_129 ?_
        refine lv_iload_n S.1 S.2.1 dX1_greatest_130 rfl (lv_at hl 2 rfl) ?_
        refine zi_iadd S dX1_greatest_131 ?_
        refine lv_iload S.1 S.2.1 dX1_greatest_132 (lv_at hl 4 rfl) ?_
        refine ys_pt S w ((3 * k) + 2) (by first | rfl | omega) (by omega) dX1_greatest_134 (fun H locs w => ?_)
        rw [updZ_back hptx] at w
        refine lv_iload S.1 S.2.1 dX1_greatest_135 (lv_at hl 5 rfl) ?_
        exact yreti ((cnt M : Int), (fact (cnt M) : Int), lix, stx) S hr rfl hlk w (Or.inr ⟨k, rfl, hk6, hkP, gr_end hgr (Or.inl c103)⟩) dX1_greatest_137
      · refine lv_iload S.1 S.2.1 dX1_greatest_50 (lv_at hl 5 rfl) ?_
        refine zi_if_ge (tgt := 123) S dX1_greatest_52 (by decide) (by omega) (fun c104 => ?_) (fun c104 => ?_)
        · refine lv_aload_n S.1 S.2.1 dX1_greatest_123 rfl (lv_at hl 0 rfl) ?_
          refine yg_pt S w dX1_greatest_124 ?_
          refine zi_iconst S dX1_greatest_127 ?_
          refine lv_iload_n S.1 S.2.1 dX1_greatest_128 rfl (lv_at hl 1 rfl) ?_
          refine zi_imul S dX1_greatest_129 ?_
          refine lv_iload_n S.1 S.2.1 dX1_greatest_130 rfl (lv_at hl 2 rfl) ?_
          refine zi_iadd S dX1_greatest_131 ?_
          refine lv_iload S.1 S.2.1 dX1_greatest_132 (lv_at hl 4 rfl) ?_
          refine ys_pt S w ((3 * k) + 2) (by first | rfl | omega) (by omega) dX1_greatest_134 (fun H locs w => ?_)
          rw [updZ_back hptx] at w
          refine lv_iload S.1 S.2.1 dX1_greatest_135 (lv_at hl 5 rfl) ?_
          exact yreti ((cnt M : Int), (fact (cnt M) : Int), lix, stx) S hr rfl hlk w (Or.inr ⟨k, rfl, hk6, hkP, gr_end hgr (Or.inr c104)⟩) dX1_greatest_137
        · refine lv_aload_n S.1 S.2.1 dX1_greatest_55 rfl (lv_at hl 0 rfl) ?_
          refine yg_pt S w dX1_greatest_56 ?_
          refine zi_iconst S dX1_greatest_59 ?_
          refine lv_iload_n S.1 S.2.1 dX1_greatest_60 rfl (lv_at hl 1 rfl) ?_
          refine zi_imul S dX1_greatest_61 ?_
          refine lv_iload_n S.1 S.2.1 dX1_greatest_62 rfl (lv_at hl 2 rfl) ?_
          refine zi_iadd S dX1_greatest_63 ?_
          refine lv_iload S.1 S.2.1 dX1_greatest_64 (lv_at hl 6 rfl) ?_
          refine ys_pt S w ((3 * k) + 2) (by first | rfl | omega) (by omega) dX1_greatest_66 (fun H locs w => ?_)
          rw [updZ_on v hptx] at w
          have hy2 := y_tl hy k v
          have hd2 := dOK_tl hd k (v := v) (by omega)
          refine zi_iconst S dX1_greatest_67 ?_
          refine lv_istore (lv' := [(7, .int (iI 0)), (0, .ref (h 0)), (1, .int (iI (k : Int))), (2, .int (iI 2)), (3, .int (iI lim)), (4, .int (iI (pt (3 * k + 2)))), (5, .int (iI f)), (6, .int (iI v))]) S.1 S.2.1 dX1_greatest_68 hl (by decide) rfl (fun ls hl => ?_)
          refine W_loop (fun n3 H locs ls => ∃ (c0 : Nat) (f2 : Int) (liy sty : Nat → Int), n3 = fact (cnt M) - c0 ∧ c0 ≤ fact (cnt M) ∧ (-1 ≤ f2 ∧ f2 ≤ 200) ∧ ((f2 = -1 ∧ ∀ c1, c1 < c0 → lim < run rel len (updZ tl k v) 0 0 (dec (cnt M) M c1)) ∨ (f2 = v ∧ fits_ rel len (updZ tl k v) M lim)) ∧ yA D h g A s s.heap th (updZ pt (3 * k + 2) v) (cnt M : Int) (fact (cnt M) : Int) liy sty H locs ∧ lv_has ls 8 [(0, .ref (h 0)), (1, .int (iI (k : Int))), (2, .int (iI 2)), (3, .int (iI lim)), (4, .int (iI (pt (3 * k + 2)))), (5, .int (iI f2)), (6, .int (iI v)), (7, .int (iI (c0 : Int)))]) 70 ?_ (fact (cnt M)) _ _ _ ⟨0, f, lix, stx, rfl, by omega, by omega, Or.inl ⟨by omega, fun c1 hc1 => absurd hc1 (by omega)⟩, w, lv_sub hl [1, 2, 3, 4, 5, 6, 7, 0] rfl⟩
          intro n3 H locs ls hI2 ih2
          obtain ⟨c0, f2, liy, sty, hn3, hcf, hf2r, hf2, w, hl⟩ := hI2
          refine lv_iload S.1 S.2.1 dX1_greatest_70 (lv_at hl 7 rfl) ?_
          refine lv_aload_n S.1 S.2.1 dX1_greatest_72 rfl (lv_at hl 0 rfl) ?_
          refine yg_od S w dX1_greatest_73 ?_
          refine zi_icmp_ge (tgt := 117) S dX1_greatest_76 (by decide) (by omega) (by omega) (fun c105 => ?_) (fun c105 => ?_)
          · have hc0e : c0 = fact (cnt M) := by omega
            have hnew : grInv (fun v => fits_ rel len (updZ tl k v) M lim) (v - 1) f2 := by
              rcases hf2 with ⟨e1, e2⟩ | ⟨e1, e2⟩
              · subst e1; exact gr_none hgr (by omega) (nofit hM (fun c1 hc1 => e2 c1 (by omega)))
              · subst e1; exact gr_some hgr (by omega) (by omega) e2
            refine lv_iinc (v := iI (v - 1)) (lv' := [(6, .int (iI (v - 1))), (0, .ref (h 0)), (1, .int (iI (k : Int))), (2, .int (iI 2)), (3, .int (iI lim)), (4, .int (iI (pt (3 * k + 2)))), (5, .int (iI f2)), (7, .int (iI (c0 : Int)))]) S.1 S.2.1 dX1_greatest_117 hl (k := 6) rfl ((iI_add _ _).trans (congrArg iI (by omega))) (by decide) rfl (fun ls hl => ?_)
            refine lv_goto (tgt := 45) S.1 S.2.1 dX1_greatest_120 (by decide) ?_
            exact ih _ _ _ _ (by omega) ⟨v - 1, f2, (updZ pt (3 * k + 2) v), liy, sty, rfl, by omega, by omega, hnew, fun i hi => updZ_n hi, w, lv_sub hl [1, 2, 3, 4, 5, 6, 0] rfl⟩
          · refine lv_iload S.1 S.2.1 dX1_greatest_79 (lv_at hl 7 rfl) ?_
            refine zi_sipush S dX1_greatest_81 (by decide) ?_
            refine zi_icmp_ge (tgt := 117) S dX1_greatest_84 (by decide) (by omega) (by omega) (fun c106 => absurd c106 (by omega)) (fun c106 => ?_)
            refine lv_iload S.1 S.2.1 dX1_greatest_87 (lv_at hl 5 rfl) ?_
            refine zi_if_ge (tgt := 117) S dX1_greatest_89 (by decide) (by omega) (fun c107 => ?_) (fun c107 => ?_)
            · have hnew : grInv (fun v => fits_ rel len (updZ tl k v) M lim) (v - 1) f2 := by
                rcases hf2 with ⟨e1, e2⟩ | ⟨e1, e2⟩
                · omega
                · subst e1; exact gr_some hgr (by omega) (by omega) e2
              refine lv_iinc (v := iI (v - 1)) (lv' := [(6, .int (iI (v - 1))), (0, .ref (h 0)), (1, .int (iI (k : Int))), (2, .int (iI 2)), (3, .int (iI lim)), (4, .int (iI (pt (3 * k + 2)))), (5, .int (iI f2)), (7, .int (iI (c0 : Int)))]) S.1 S.2.1 dX1_greatest_117 hl (k := 6) rfl ((iI_add _ _).trans (congrArg iI (by omega))) (by decide) rfl (fun ls hl => ?_)
              refine lv_goto (tgt := 45) S.1 S.2.1 dX1_greatest_120 (by decide) ?_
              exact ih _ _ _ _ (by omega) ⟨v - 1, f2, (updZ pt (3 * k + 2) v), liy, sty, rfl, by omega, by omega, hnew, fun i hi => updZ_n hi, w, lv_sub hl [1, 2, 3, 4, 5, 6, 0] rfl⟩
            · refine lv_aload_n S.1 S.2.1 dX1_greatest_92 rfl (lv_at hl 0 rfl) ?_
              refine lv_iload S.1 S.2.1 dX1_greatest_93 (lv_at hl 7 rfl) ?_
              refine ycalli [] S w fY_spell (mY_spell l th (updZ pt (3 * k + 2) v) liy sty M rel len (updZ tl k v) hy2 hd2 c0 (by omega)) rfl ⟨Nat.le_of_ble_eq_true rfl, Nat.le_of_ble_eq_true rfl⟩ hl.1 (Nat.le_of_ble_eq_true rfl) rfl ⟨Nat.zero_le _, Nat.zero_le _⟩ dX1_greatest_95 (fun z u H locs hp w => ?_)
              obtain ⟨li2, st2⟩ := u
              have w : yA D h g A s s.heap th (updZ pt (3 * k + 2) v) (cnt M : Int) (fact (cnt M) : Int) li2 st2 H locs := w
              obtain ⟨hz, -, -⟩ := hp
              have hord := dec_ord (cnt M) M c0 hM rfl (by omega)
              have hrr := run_rng hd2 hM hord
              have hf2n : f2 = -1 := by omega
              have hall : ∀ c1, c1 < c0 → lim < run rel len (updZ tl k v) 0 0 (dec (cnt M) M c1) := by
                rcases hf2 with ⟨-, e2⟩ | ⟨e1, -⟩
                · exact e2
                · omega
              refine lv_iload_n S.1 S.2.1 dX1_greatest_98 rfl (lv_at hl 3 rfl) ?_
              refine zi_icmp_gt (tgt := 107) S dX1_greatest_99 (by decide) (by omega) (by omega) (fun c108 => ?_) (fun c108 => ?_)
              · refine lv_iload S.1 S.2.1 dX1_greatest_107 (lv_at hl 5 rfl) ?_
                refine lv_istore (lv' := [(5, .int (iI f2)), (0, .ref (h 0)), (1, .int (iI (k : Int))), (2, .int (iI 2)), (3, .int (iI lim)), (4, .int (iI (pt (3 * k + 2)))), (6, .int (iI v)), (7, .int (iI (c0 : Int)))]) S.1 S.2.1 dX1_greatest_109 hl (by decide) rfl (fun ls hl => ?_)
                refine lv_iinc (v := iI ((c0 + 1 : Nat) : Int)) (lv' := [(7, .int (iI ((c0 + 1 : Nat) : Int))), (5, .int (iI f2)), (0, .ref (h 0)), (1, .int (iI (k : Int))), (2, .int (iI 2)), (3, .int (iI lim)), (4, .int (iI (pt (3 * k + 2)))), (6, .int (iI v))]) S.1 S.2.1 dX1_greatest_111 hl (k := 7) rfl ((iI_add _ _).trans (congrArg iI (by omega))) (by decide) rfl (fun ls hl => ?_)
                refine lv_goto (tgt := 70) S.1 S.2.1 dX1_greatest_114 (by decide) ?_
                exact ih2 _ _ _ _ (by omega) ⟨c0 + 1, f2, li2, st2, rfl, by omega, by omega, Or.inl ⟨hf2n, lt_s hall (by omega)⟩, w, lv_sub hl [2, 3, 4, 5, 6, 1, 7, 0] rfl⟩
              · refine lv_iload S.1 S.2.1 dX1_greatest_102 (lv_at hl 6 rfl) ?_
                refine lv_goto (tgt := 109) S.1 S.2.1 dX1_greatest_104 (by decide) ?_
                refine lv_istore (lv' := [(5, .int (iI v)), (0, .ref (h 0)), (1, .int (iI (k : Int))), (2, .int (iI 2)), (3, .int (iI lim)), (4, .int (iI (pt (3 * k + 2)))), (6, .int (iI v)), (7, .int (iI (c0 : Int)))]) S.1 S.2.1 dX1_greatest_109 hl (by decide) rfl (fun ls hl => ?_)
                refine lv_iinc (v := iI ((c0 + 1 : Nat) : Int)) (lv' := [(7, .int (iI ((c0 + 1 : Nat) : Int))), (5, .int (iI v)), (0, .ref (h 0)), (1, .int (iI (k : Int))), (2, .int (iI 2)), (3, .int (iI lim)), (4, .int (iI (pt (3 * k + 2)))), (6, .int (iI v))]) S.1 S.2.1 dX1_greatest_111 hl (k := 7) rfl ((iI_add _ _).trans (congrArg iI (by omega))) (by decide) rfl (fun ls hl => ?_)
                refine lv_goto (tgt := 70) S.1 S.2.1 dX1_greatest_114 (by decide) ?_
                exact ih2 _ _ _ _ (by omega) ⟨c0 + 1, v, li2, st2, rfl, by omega, by omega, Or.inr ⟨rfl, fit (c := c0) hM (by omega) (by omega)⟩, w, lv_sub hl [2, 3, 4, 5, 6, 1, 7, 0] rfl⟩
    · skip
      refine lv_iload_n S.1 S.2.1 dX1_greatest_29 rfl (lv_at hl 5 rfl) ?_
      refine zi_sipush S dX1_greatest_30 (by decide) ?_
      refine zi_icmp_ge (tgt := 40) S dX1_greatest_33 (by decide) (by omega) (by omega) (fun c109 => ?_) (fun c109 => ?_)
      · refine zi_sipush S dX1_greatest_40 (by decide) ?_
        exact K _ (by omega)
      · refine lv_iload_n S.1 S.2.1 dX1_greatest_36 rfl (lv_at hl 5 rfl) ?_
        refine lv_goto (tgt := 43) S.1 S.2.1 dX1_greatest_37 (by decide) ?_
        exact K _ (by omega)
  · skip
    refine zi_if_ne (tgt := 10) S dX1_greatest_5 (by decide) (by omega) (fun c110 => absurd c110 (by omega)) (fun c110 => ?_)
    refine zi_iconst S dX1_greatest_8 ?_
    exact yreti (nn, od, li, st) S hr rfl hlk w (Or.inl ⟨rfl, hno⟩) dX1_greatest_9
set_option maxHeartbeats 4000000 in
/-- tailFor(j, lim) -/
theorem mY_tailFor (l : Launch) (th pt : Nat → Int) (nn od : Int) (li st : Nat → Int) (M : Nat) (rel len tl : Nat → Int) (hy : yOK th pt M rel len tl) (hd : dOK rel len tl) (j lim : Int) (hj0 : -2147483648 ≤ j ∧ j ≤ 2147483647) (hlim0 : -2147483648 ≤ lim ∧ lim ≤ 2147483647) : CYi l yX1_tailFor cX1_tailFor 3 (some .int) 3 80 [.int (iI j), .int (iI lim)] (th, pt, nn, od, li, st) (fun z (_ : (Int × Int × (Nat → Int) × (Nat → Int))) => (z = -1 ∧ ∀ k : Nat, j = (k : Int) → k < 6 → M.testBit k = false) ∨ ∃ k : Nat, j = (k : Int) ∧ k < 6 ∧ M.testBit k = true ∧ gIs (fun v => fits_ rel len (updZ tl k v) M lim) z) (fun u => (th, pt, u.1, u.2.1, u.2.2.1, u.2.2.2)) := by
  refine CYi.of (by decide) rfl (fun _ => Nat.le_of_ble_eq_true rfl) ?_
  intro p e s m below meth c D h g A S hr hlk w ls hl
  have hl : lv_has ls 3 [(0, .ref (h 0)), (1, .int (iI j)), (2, .int (iI lim))] := hl
  have w : yA D h g A s s.heap th pt nn od li st s.heap [] := w
  refine lv_aload_n S.1 S.2.1 dX1_tailFor_0 rfl (lv_at hl 0 rfl) ?_
  refine lv_iload_n S.1 S.2.1 dX1_tailFor_1 rfl (lv_at hl 1 rfl) ?_
  refine zi_iconst S dX1_tailFor_2 ?_
  refine lv_iload_n S.1 S.2.1 dX1_tailFor_3 rfl (lv_at hl 2 rfl) ?_
  refine ycalli [] S w fY_greatest (mY_greatest2 l th pt nn od li st M rel len tl hy hd j lim (by omega) (by omega)) rfl ⟨Nat.le_of_ble_eq_true rfl, Nat.le_of_ble_eq_true rfl⟩ hl.1 (Nat.le_of_ble_eq_true rfl) rfl ⟨Nat.zero_le _, Nat.zero_le _⟩ dX1_tailFor_4 (fun z u H locs hp w => ?_)
  obtain ⟨nn2, od2, li2, st2⟩ := u
  have w : yA D h g A s s.heap th pt nn2 od2 li2 st2 H locs := w
  exact yreti (nn2, od2, li2, st2) S hr rfl hlk w hp dX1_tailFor_7
set_option maxHeartbeats 4000000 in
/-- greatest(j, 0, lim) -/
theorem mY_greatest0 (l : Launch) (th pt : Nat → Int) (nn od : Int) (li st : Nat → Int) (M : Nat) (rel len tl : Nat → Int) (hy : yOK th pt M rel len tl) (hd : dOK rel len tl) (j lim : Int) (hj0 : -2147483648 ≤ j ∧ j ≤ 2147483647) (hlim0 : -2147483648 ≤ lim ∧ lim ≤ 2147483647) : CYi l yX1_greatest cX1_greatest 8 (some .int) 2 53 [.int (iI j), .int (iI 0), .int (iI lim)] (th, pt, nn, od, li, st) (fun z (_ : (Int × Int × (Nat → Int) × (Nat → Int))) => (z = -1 ∧ ∀ k : Nat, j = (k : Int) → k < 6 → M.testBit k = false) ∨ ∃ k : Nat, j = (k : Int) ∧ k < 6 ∧ M.testBit k = true ∧ gIs (fun v => fits_ (updZ rel k v) len tl M lim) z) (fun u => (th, pt, u.1, u.2.1, u.2.2.1, u.2.2.2)) := by
  refine CYi.of (by decide) rfl (fun _ => Nat.le_of_ble_eq_true rfl) ?_
  intro p e s m below meth c D h g A S hr hlk w ls hl
  have hl : lv_has ls 8 [(0, .ref (h 0)), (1, .int (iI j)), (2, .int (iI 0)), (3, .int (iI lim))] := hl
  have w : yA D h g A s s.heap th pt nn od li st s.heap [] := w
  have hc6 := cnt_le M
  have hf720 := fact_720 hc6
  have hM := hy.1
  refine lv_aload_n S.1 S.2.1 dX1_greatest_0 rfl (lv_at hl 0 rfl) ?_
  refine lv_iload_n S.1 S.2.1 dX1_greatest_1 rfl (lv_at hl 1 rfl) ?_
  refine ycalli [] S w fY_is (mY_is l th pt nn od li st M rel len tl hy j (by omega)) rfl ⟨Nat.le_of_ble_eq_true rfl, Nat.le_of_ble_eq_true rfl⟩ hl.1 (Nat.le_of_ble_eq_true rfl) rfl ⟨Nat.zero_le _, Nat.zero_le _⟩ dX1_greatest_2 (fun z u H locs hp w => ?_)
  have w : yA D h g A s s.heap th pt nn od li st H locs := w
  rcases hp with ⟨rfl, k, hk, hk6, hkP⟩ | ⟨rfl, hno⟩
  · subst hk
    refine zi_if_ne (tgt := 10) S dX1_greatest_5 (by decide) (by omega) (fun c111 => ?_) (fun c111 => absurd c111 (by omega))
    refine lv_aload_n S.1 S.2.1 dX1_greatest_10 rfl (lv_at hl 0 rfl) ?_
    refine ycallv [] S w fY_count (mY_count l th pt nn od li st M rel len tl hy) rfl ⟨Nat.le_of_ble_eq_true rfl, Nat.le_of_ble_eq_true rfl⟩ hl.1 (Nat.le_of_ble_eq_true rfl) rfl ⟨Nat.zero_le _, Nat.zero_le _⟩ dX1_greatest_11 (fun u H locs hp w => ?_)
    have w : yA D h g A s s.heap th pt (cnt M : Int) (fact (cnt M) : Int) li st H locs := w
    refine lv_aload_n S.1 S.2.1 dX1_greatest_14 rfl (lv_at hl 0 rfl) ?_
    refine yg_pt S w dX1_greatest_15 ?_
    refine zi_iconst S dX1_greatest_18 ?_
    refine lv_iload_n S.1 S.2.1 dX1_greatest_19 rfl (lv_at hl 1 rfl) ?_
    refine zi_imul S dX1_greatest_20 ?_
    refine lv_iload_n S.1 S.2.1 dX1_greatest_21 rfl (lv_at hl 2 rfl) ?_
    refine zi_iadd S dX1_greatest_22 ?_
    refine yl_pt S w ((3 * k) + 0) (by first | rfl | omega) (by omega) dX1_greatest_23 ?_
    refine lv_istore (lv' := [(4, .int (iI (pt (3 * k + 0)))), (0, .ref (h 0)), (1, .int (iI (k : Int))), (2, .int (iI 0)), (3, .int (iI lim))]) S.1 S.2.1 dX1_greatest_24 hl (by decide) rfl (fun ls hl => ?_)
    refine zi_iconst S dX1_greatest_26 ?_
    refine lv_istore (lv' := [(5, .int (iI (-1))), (4, .int (iI (pt (3 * k + 0)))), (0, .ref (h 0)), (1, .int (iI (k : Int))), (2, .int (iI 0)), (3, .int (iI lim))]) S.1 S.2.1 dX1_greatest_27 hl (by decide) rfl (fun ls hl => ?_)
    refine W_meet (ls := ls) (rest := []) (fun v => v = min lim 200) 43 (fun v0 hv0 => ?_) (fun K => ?_)
    · skip
      refine lv_istore (lv' := [(6, .int (iI v0)), (5, .int (iI (-1))), (4, .int (iI (pt (3 * k + 0)))), (0, .ref (h 0)), (1, .int (iI (k : Int))), (2, .int (iI 0)), (3, .int (iI lim))]) S.1 S.2.1 dX1_greatest_43 hl (by decide) rfl (fun ls hl => ?_)
      refine W_loop (fun n2 H locs ls => ∃ (v f : Int) (ptx lix stx : Nat → Int), n2 = (v + 1).toNat ∧ v ≤ 200 ∧ -2147483648 ≤ v ∧ grInv (fun v => fits_ (updZ rel k v) len tl M lim) v f ∧ (∀ i, i ≠ (3 * k + 0) → ptx i = pt i) ∧ yA D h g A s s.heap th ptx (cnt M : Int) (fact (cnt M) : Int) lix stx H locs ∧ lv_has ls 8 [(0, .ref (h 0)), (1, .int (iI (k : Int))), (2, .int (iI 0)), (3, .int (iI lim)), (4, .int (iI (pt (3 * k + 0)))), (5, .int (iI f)), (6, .int (iI v))]) 45 ?_ (v0 + 1).toNat _ _ _ ⟨v0, -1, pt, li, st, rfl, by omega, by omega, Or.inl ⟨rfl, fun v1 h1 h2 => far_rel hd hk6 hkP (by omega)⟩, fun i _ => rfl, w, lv_sub hl [3, 4, 5, 6, 2, 1, 0] rfl⟩
      intro n2 H locs ls hI ih
      obtain ⟨v, f, ptx, lix, stx, hn2, hv2, hv1, hgr, hptx, w, hl⟩ := hI
      have hfr := gr_r hgr
      refine lv_iload S.1 S.2.1 dX1_greatest_45 (lv_at hl 6 rfl) ?_
      refine zi_if_lt (tgt := 123) S dX1_greatest_47 (by decide) (by omega) (fun c112 => ?_) (fun c112 => ?_)
      · refine lv_aload_n S.1 S.2.1 dX1_greatest_123 rfl (lv_at hl 0 rfl) ?_
        refine yg_pt S w dX1_greatest_124 ?_
        refine zi_iconst S dX1_greatest_127 ?_
        refine lv_iload_n S.1 S.2.1 dX1_greatest_128 rfl (lv_at hl 1 rfl) ?_
        refine zi_imul S dX1_greatest_129 ?_
        refine lv_iload_n S.1 S.2.1 dX1_greatest_130 rfl (lv_at hl 2 rfl) ?_
        refine zi_iadd S dX1_greatest_131 ?_
        refine lv_iload S.1 S.2.1 dX1_greatest_132 (lv_at hl 4 rfl) ?_
        refine ys_pt S w ((3 * k) + 0) (by first | rfl | omega) (by omega) dX1_greatest_134 (fun H locs w => ?_)
        rw [updZ_back hptx] at w
        refine lv_iload S.1 S.2.1 dX1_greatest_135 (lv_at hl 5 rfl) ?_
        exact yreti ((cnt M : Int), (fact (cnt M) : Int), lix, stx) S hr rfl hlk w (Or.inr ⟨k, rfl, hk6, hkP, gr_end hgr (Or.inl c112)⟩) dX1_greatest_137
      · refine lv_iload S.1 S.2.1 dX1_greatest_50 (lv_at hl 5 rfl) ?_
        refine zi_if_ge (tgt := 123) S dX1_greatest_52 (by decide) (by omega) (fun c113 => ?_) (fun c113 => ?_)
        · refine lv_aload_n S.1 S.2.1 dX1_greatest_123 rfl (lv_at hl 0 rfl) ?_
          refine yg_pt S w dX1_greatest_124 ?_
          refine zi_iconst S dX1_greatest_127 ?_
          refine lv_iload_n S.1 S.2.1 dX1_greatest_128 rfl (lv_at hl 1 rfl) ?_
          refine zi_imul S dX1_greatest_129 ?_
          refine lv_iload_n S.1 S.2.1 dX1_greatest_130 rfl (lv_at hl 2 rfl) ?_
          refine zi_iadd S dX1_greatest_131 ?_
          refine lv_iload S.1 S.2.1 dX1_greatest_132 (lv_at hl 4 rfl) ?_
          refine ys_pt S w ((3 * k) + 0) (by first | rfl | omega) (by omega) dX1_greatest_134 (fun H locs w => ?_)
          rw [updZ_back hptx] at w
          refine lv_iload S.1 S.2.1 dX1_greatest_135 (lv_at hl 5 rfl) ?_
          exact yreti ((cnt M : Int), (fact (cnt M) : Int), lix, stx) S hr rfl hlk w (Or.inr ⟨k, rfl, hk6, hkP, gr_end hgr (Or.inr c113)⟩) dX1_greatest_137
        · refine lv_aload_n S.1 S.2.1 dX1_greatest_55 rfl (lv_at hl 0 rfl) ?_
          refine yg_pt S w dX1_greatest_56 ?_
          refine zi_iconst S dX1_greatest_59 ?_
          refine lv_iload_n S.1 S.2.1 dX1_greatest_60 rfl (lv_at hl 1 rfl) ?_
          refine zi_imul S dX1_greatest_61 ?_
          refine lv_iload_n S.1 S.2.1 dX1_greatest_62 rfl (lv_at hl 2 rfl) ?_
          refine zi_iadd S dX1_greatest_63 ?_
          refine lv_iload S.1 S.2.1 dX1_greatest_64 (lv_at hl 6 rfl) ?_
          refine ys_pt S w ((3 * k) + 0) (by first | rfl | omega) (by omega) dX1_greatest_66 (fun H locs w => ?_)
          rw [updZ_on v hptx] at w
          have hy2 := y_rel hy k v
          have hd2 := dOK_rel hd k (v := v) (by omega)
          refine zi_iconst S dX1_greatest_67 ?_
          refine lv_istore (lv' := [(7, .int (iI 0)), (0, .ref (h 0)), (1, .int (iI (k : Int))), (2, .int (iI 0)), (3, .int (iI lim)), (4, .int (iI (pt (3 * k + 0)))), (5, .int (iI f)), (6, .int (iI v))]) S.1 S.2.1 dX1_greatest_68 hl (by decide) rfl (fun ls hl => ?_)
          refine W_loop (fun n3 H locs ls => ∃ (c0 : Nat) (f2 : Int) (liy sty : Nat → Int), n3 = fact (cnt M) - c0 ∧ c0 ≤ fact (cnt M) ∧ (-1 ≤ f2 ∧ f2 ≤ 200) ∧ ((f2 = -1 ∧ ∀ c1, c1 < c0 → lim < run (updZ rel k v) len tl 0 0 (dec (cnt M) M c1)) ∨ (f2 = v ∧ fits_ (updZ rel k v) len tl M lim)) ∧ yA D h g A s s.heap th (updZ pt (3 * k + 0) v) (cnt M : Int) (fact (cnt M) : Int) liy sty H locs ∧ lv_has ls 8 [(0, .ref (h 0)), (1, .int (iI (k : Int))), (2, .int (iI 0)), (3, .int (iI lim)), (4, .int (iI (pt (3 * k + 0)))), (5, .int (iI f2)), (6, .int (iI v)), (7, .int (iI (c0 : Int)))]) 70 ?_ (fact (cnt M)) _ _ _ ⟨0, f, lix, stx, rfl, by omega, by omega, Or.inl ⟨by omega, fun c1 hc1 => absurd hc1 (by omega)⟩, w, lv_sub hl [1, 2, 3, 4, 5, 6, 7, 0] rfl⟩
          intro n3 H locs ls hI2 ih2
          obtain ⟨c0, f2, liy, sty, hn3, hcf, hf2r, hf2, w, hl⟩ := hI2
          refine lv_iload S.1 S.2.1 dX1_greatest_70 (lv_at hl 7 rfl) ?_
          refine lv_aload_n S.1 S.2.1 dX1_greatest_72 rfl (lv_at hl 0 rfl) ?_
          refine yg_od S w dX1_greatest_73 ?_
          refine zi_icmp_ge (tgt := 117) S dX1_greatest_76 (by decide) (by omega) (by omega) (fun c114 => ?_) (fun c114 => ?_)
          · have hc0e : c0 = fact (cnt M) := by omega
            have hnew : grInv (fun v => fits_ (updZ rel k v) len tl M lim) (v - 1) f2 := by
              rcases hf2 with ⟨e1, e2⟩ | ⟨e1, e2⟩
              · subst e1; exact gr_none hgr (by omega) (nofit hM (fun c1 hc1 => e2 c1 (by omega)))
              · subst e1; exact gr_some hgr (by omega) (by omega) e2
            refine lv_iinc (v := iI (v - 1)) (lv' := [(6, .int (iI (v - 1))), (0, .ref (h 0)), (1, .int (iI (k : Int))), (2, .int (iI 0)), (3, .int (iI lim)), (4, .int (iI (pt (3 * k + 0)))), (5, .int (iI f2)), (7, .int (iI (c0 : Int)))]) S.1 S.2.1 dX1_greatest_117 hl (k := 6) rfl ((iI_add _ _).trans (congrArg iI (by omega))) (by decide) rfl (fun ls hl => ?_)
            refine lv_goto (tgt := 45) S.1 S.2.1 dX1_greatest_120 (by decide) ?_
            exact ih _ _ _ _ (by omega) ⟨v - 1, f2, (updZ pt (3 * k + 0) v), liy, sty, rfl, by omega, by omega, hnew, fun i hi => updZ_n hi, w, lv_sub hl [1, 2, 3, 4, 5, 6, 0] rfl⟩
          · refine lv_iload S.1 S.2.1 dX1_greatest_79 (lv_at hl 7 rfl) ?_
            refine zi_sipush S dX1_greatest_81 (by decide) ?_
            refine zi_icmp_ge (tgt := 117) S dX1_greatest_84 (by decide) (by omega) (by omega) (fun c115 => absurd c115 (by omega)) (fun c115 => ?_)
            refine lv_iload S.1 S.2.1 dX1_greatest_87 (lv_at hl 5 rfl) ?_
            refine zi_if_ge (tgt := 117) S dX1_greatest_89 (by decide) (by omega) (fun c116 => ?_) (fun c116 => ?_)
            · have hnew : grInv (fun v => fits_ (updZ rel k v) len tl M lim) (v - 1) f2 := by
                rcases hf2 with ⟨e1, e2⟩ | ⟨e1, e2⟩
                · omega
                · subst e1; exact gr_some hgr (by omega) (by omega) e2
              refine lv_iinc (v := iI (v - 1)) (lv' := [(6, .int (iI (v - 1))), (0, .ref (h 0)), (1, .int (iI (k : Int))), (2, .int (iI 0)), (3, .int (iI lim)), (4, .int (iI (pt (3 * k + 0)))), (5, .int (iI f2)), (7, .int (iI (c0 : Int)))]) S.1 S.2.1 dX1_greatest_117 hl (k := 6) rfl ((iI_add _ _).trans (congrArg iI (by omega))) (by decide) rfl (fun ls hl => ?_)
              refine lv_goto (tgt := 45) S.1 S.2.1 dX1_greatest_120 (by decide) ?_
              exact ih _ _ _ _ (by omega) ⟨v - 1, f2, (updZ pt (3 * k + 0) v), liy, sty, rfl, by omega, by omega, hnew, fun i hi => updZ_n hi, w, lv_sub hl [1, 2, 3, 4, 5, 6, 0] rfl⟩
            · refine lv_aload_n S.1 S.2.1 dX1_greatest_92 rfl (lv_at hl 0 rfl) ?_
              refine lv_iload S.1 S.2.1 dX1_greatest_93 (lv_at hl 7 rfl) ?_
              refine ycalli [] S w fY_spell (mY_spell l th (updZ pt (3 * k + 0) v) liy sty M (updZ rel k v) len tl hy2 hd2 c0 (by omega)) rfl ⟨Nat.le_of_ble_eq_true rfl, Nat.le_of_ble_eq_true rfl⟩ hl.1 (Nat.le_of_ble_eq_true rfl) rfl ⟨Nat.zero_le _, Nat.zero_le _⟩ dX1_greatest_95 (fun z u H locs hp w => ?_)
              obtain ⟨li2, st2⟩ := u
              have w : yA D h g A s s.heap th (updZ pt (3 * k + 0) v) (cnt M : Int) (fact (cnt M) : Int) li2 st2 H locs := w
              obtain ⟨hz, -, -⟩ := hp
              have hord := dec_ord (cnt M) M c0 hM rfl (by omega)
              have hrr := run_rng hd2 hM hord
              have hf2n : f2 = -1 := by omega
              have hall : ∀ c1, c1 < c0 → lim < run (updZ rel k v) len tl 0 0 (dec (cnt M) M c1) := by
                rcases hf2 with ⟨-, e2⟩ | ⟨e1, -⟩
                · exact e2
                · omega
              refine lv_iload_n S.1 S.2.1 dX1_greatest_98 rfl (lv_at hl 3 rfl) ?_
              refine zi_icmp_gt (tgt := 107) S dX1_greatest_99 (by decide) (by omega) (by omega) (fun c117 => ?_) (fun c117 => ?_)
              · refine lv_iload S.1 S.2.1 dX1_greatest_107 (lv_at hl 5 rfl) ?_
                refine lv_istore (lv' := [(5, .int (iI f2)), (0, .ref (h 0)), (1, .int (iI (k : Int))), (2, .int (iI 0)), (3, .int (iI lim)), (4, .int (iI (pt (3 * k + 0)))), (6, .int (iI v)), (7, .int (iI (c0 : Int)))]) S.1 S.2.1 dX1_greatest_109 hl (by decide) rfl (fun ls hl => ?_)
                refine lv_iinc (v := iI ((c0 + 1 : Nat) : Int)) (lv' := [(7, .int (iI ((c0 + 1 : Nat) : Int))), (5, .int (iI f2)), (0, .ref (h 0)), (1, .int (iI (k : Int))), (2, .int (iI 0)), (3, .int (iI lim)), (4, .int (iI (pt (3 * k + 0)))), (6, .int (iI v))]) S.1 S.2.1 dX1_greatest_111 hl (k := 7) rfl ((iI_add _ _).trans (congrArg iI (by omega))) (by decide) rfl (fun ls hl => ?_)
                refine lv_goto (tgt := 70) S.1 S.2.1 dX1_greatest_114 (by decide) ?_
                exact ih2 _ _ _ _ (by omega) ⟨c0 + 1, f2, li2, st2, rfl, by omega, by omega, Or.inl ⟨hf2n, lt_s hall (by omega)⟩, w, lv_sub hl [2, 3, 4, 5, 6, 1, 7, 0] rfl⟩
              · refine lv_iload S.1 S.2.1 dX1_greatest_102 (lv_at hl 6 rfl) ?_
                refine lv_goto (tgt := 109) S.1 S.2.1 dX1_greatest_104 (by decide) ?_
                refine lv_istore (lv' := [(5, .int (iI v)), (0, .ref (h 0)), (1, .int (iI (k : Int))), (2, .int (iI 0)), (3, .int (iI lim)), (4, .int (iI (pt (3 * k + 0)))), (6, .int (iI v)), (7, .int (iI (c0 : Int)))]) S.1 S.2.1 dX1_greatest_109 hl (by decide) rfl (fun ls hl => ?_)
                refine lv_iinc (v := iI ((c0 + 1 : Nat) : Int)) (lv' := [(7, .int (iI ((c0 + 1 : Nat) : Int))), (5, .int (iI v)), (0, .ref (h 0)), (1, .int (iI (k : Int))), (2, .int (iI 0)), (3, .int (iI lim)), (4, .int (iI (pt (3 * k + 0)))), (6, .int (iI v))]) S.1 S.2.1 dX1_greatest_111 hl (k := 7) rfl ((iI_add _ _).trans (congrArg iI (by omega))) (by decide) rfl (fun ls hl => ?_)
                refine lv_goto (tgt := 70) S.1 S.2.1 dX1_greatest_114 (by decide) ?_
                exact ih2 _ _ _ _ (by omega) ⟨c0 + 1, v, li2, st2, rfl, by omega, by omega, Or.inr ⟨rfl, fit (c := c0) hM (by omega) (by omega)⟩, w, lv_sub hl [2, 3, 4, 5, 6, 1, 7, 0] rfl⟩
    · skip
      refine lv_iload_n S.1 S.2.1 dX1_greatest_29 rfl (lv_at hl 5 rfl) ?_
      refine zi_sipush S dX1_greatest_30 (by decide) ?_
      refine zi_icmp_ge (tgt := 40) S dX1_greatest_33 (by decide) (by omega) (by omega) (fun c118 => ?_) (fun c118 => ?_)
      · refine zi_sipush S dX1_greatest_40 (by decide) ?_
        exact K _ (by omega)
      · refine lv_iload_n S.1 S.2.1 dX1_greatest_36 rfl (lv_at hl 5 rfl) ?_
        refine lv_goto (tgt := 43) S.1 S.2.1 dX1_greatest_37 (by decide) ?_
        exact K _ (by omega)
  · skip
    refine zi_if_ne (tgt := 10) S dX1_greatest_5 (by decide) (by omega) (fun c119 => absurd c119 (by omega)) (fun c119 => ?_)
    refine zi_iconst S dX1_greatest_8 ?_
    exact yreti (nn, od, li, st) S hr rfl hlk w (Or.inl ⟨rfl, hno⟩) dX1_greatest_9
set_option maxHeartbeats 4000000 in
/-- releaseFor(j, lim) -/
theorem mY_releaseFor (l : Launch) (th pt : Nat → Int) (nn od : Int) (li st : Nat → Int) (M : Nat) (rel len tl : Nat → Int) (hy : yOK th pt M rel len tl) (hd : dOK rel len tl) (j lim : Int) (hj0 : -2147483648 ≤ j ∧ j ≤ 2147483647) (hlim0 : -2147483648 ≤ lim ∧ lim ≤ 2147483647) : CYi l yX1_releaseFor cX1_releaseFor 3 (some .int) 3 80 [.int (iI j), .int (iI lim)] (th, pt, nn, od, li, st) (fun z (_ : (Int × Int × (Nat → Int) × (Nat → Int))) => (z = -1 ∧ ∀ k : Nat, j = (k : Int) → k < 6 → M.testBit k = false) ∨ ∃ k : Nat, j = (k : Int) ∧ k < 6 ∧ M.testBit k = true ∧ gIs (fun v => fits_ (updZ rel k v) len tl M lim) z) (fun u => (th, pt, u.1, u.2.1, u.2.2.1, u.2.2.2)) := by
  refine CYi.of (by decide) rfl (fun _ => Nat.le_of_ble_eq_true rfl) ?_
  intro p e s m below meth c D h g A S hr hlk w ls hl
  have hl : lv_has ls 3 [(0, .ref (h 0)), (1, .int (iI j)), (2, .int (iI lim))] := hl
  have w : yA D h g A s s.heap th pt nn od li st s.heap [] := w
  refine lv_aload_n S.1 S.2.1 dX1_releaseFor_0 rfl (lv_at hl 0 rfl) ?_
  refine lv_iload_n S.1 S.2.1 dX1_releaseFor_1 rfl (lv_at hl 1 rfl) ?_
  refine zi_iconst S dX1_releaseFor_2 ?_
  refine lv_iload_n S.1 S.2.1 dX1_releaseFor_3 rfl (lv_at hl 2 rfl) ?_
  refine ycalli [] S w fY_greatest (mY_greatest0 l th pt nn od li st M rel len tl hy hd j lim (by omega) (by omega)) rfl ⟨Nat.le_of_ble_eq_true rfl, Nat.le_of_ble_eq_true rfl⟩ hl.1 (Nat.le_of_ble_eq_true rfl) rfl ⟨Nat.zero_le _, Nat.zero_le _⟩ dX1_releaseFor_4 (fun z u H locs hp w => ?_)
  obtain ⟨nn2, od2, li2, st2⟩ := u
  have w : yA D h g A s s.heap th pt nn2 od2 li2 st2 H locs := w
  exact yreti (nn2, od2, li2, st2) S hr rfl hlk w hp dX1_releaseFor_7
end
section
/-! the constructors -/
set_option maxRecDepth 100000
def zf : Nat → Int := fun _ => 0
abbrev fs0X : List Value := [.int (iI 0), .null, .null, .null, .null, .null, .null, .null, .int (iI 0), .int (iI 0), .null]
set_option maxHeartbeats 4000000 in
/-- the constructor: new arrays, all zero -/
theorem mX_init (l : Launch) (D : va_G) (h0 sz : Nat) : Met l yX0_init (ws_ yX0_init cX0_init 1 none) ({ frames := 1, cells := 8, slots := 54, locals := 12 }) (va_Pc [.ref h0] (fun U => U.heap.size = sz ∧ va_P D vwCl [(h0, .inr (0, fs0X))] U.heap ∧ va_K D vwCl [] U ∧ va_D (fun _ => True) [(h0, .inr (0, fs0X))])) (va_Qv (fun (u : (Nat → Nat) × (Nat → ClassId)) => u.1 0 = h0) (fun u t => xWu D u.1 u.2 (va_A [(h0, .inr (0, fs0X))] sz) ((0 : Nat), zf, zf, zf, zf, zf, zf, zf, (0 : Int), (0 : Int), zf) t) (va_A [(h0, .inr (0, fs0X))] sz)) 8 54 (va_A [(h0, .inr (0, fs0X))] sz) := by
  refine Met.ofW (cc := cX0_init) (maxL := 1) (ret := none) (by decide) rfl ?_
  intro p e s m args below meth c s₁ B hml hv
  obtain ⟨rfl, hsz, hP, hK, hD0⟩ := hv
  have hx := B.exec
  have hb := B.bytes
  have hr := B.returns
  have hts := atoms_spec (ws := ws_ yX0_init cX0_init 1 none) B.pre
  have hts : ∀ w ∈ lw_all, w.before _ s = true := fun w h => hts w (List.mem_cons_of_mem _ h)
  have hown : s.vm.findClass RX0 = some m.cls := findClass_of_methodNamed B.named
  have hlocks := B.notSynchronized
  have hin : meth.name = "<init>" := (name_of_methodNamed B.named B.method).1
  subst hsz
  have hD := hD0.self (sz := s.heap.size)
  generalize hAe : va_A [(h0, .inr (0, fs0X))] s.heap.size = A at hD ⊢
  have hA : ∀ q : Nat, s.heap.size ≤ q → A q := fun q h => by rw [← hAe]; exact Or.inr h
  have hS : va_S A s.heap s.heap [] := va_S.rf
  have hl := lv_entry ([.ref h0]) (n := 1) (Nat.le_of_ble_eq_true rfl)
  rw [lg_entry_eq]
  generalize (lg_sl ([.ref h0]) ++ List.replicate (1 - (lg_sl ([.ref h0])).length) Slot.unset).toArray = ls at hl ⊢
  have hl : lv_has ls 1 [(0, .ref h0)] := hl
  refine lv_aload_n hx hb dX0_init_0 rfl (lv_at hl 0 rfl) ?_
  refine W.objInit hx hb hown (hts _ q33) (hts _ q34) (hts _ q35) rfl (by rw [hml]; exact hl.1) rfl dX0_init_1 (Nat.le_of_ble_eq_true rfl) (Nat.le_of_ble_eq_true rfl) ?_
  refine W.eq (g2 := F0 m 4 ls []) rfl ?_
  refine lv_aload_n hx hb dX0_init_4 rfl (lv_at hl 0 rfl) ?_
  refine lv_bipush (v := iI 6) hx hb dX0_init_5 (by decide) ?_
  refine va_newa (atype := .short) (ty := .short) (a0 := (6, .inl (zA zf))) (N' := 6) hx hb (hts _ q70) rfl hK hP hD hS hA (fun _ => rfl) (by decide) (by decide) (by decide) (Nat.le_of_ble_eq_true rfl) (Nat.le_of_ble_eq_true rfl) dX0_init_7 (fun q1 cA1 H hK hP hD hS => ?_)
  have hP : va_P D vwCl [(h0, .inr (0, [.int (iI 0), .null, .null, .null, .null, .null, .null, .null, .int (iI 0), .int (iI 0), .null])), (q1, .inl (cA1, 6, .inl (zA zf)))] H := hP
  have hD : va_D A [(h0, .inr (0, [.int (iI 0), .null, .null, .null, .null, .null, .null, .null, .int (iI 0), .int (iI 0), .null])), (q1, .inl (cA1, 6, .inl (zA zf)))] := hD
  have hK : va_K D vwCl [(cA1, .short)] s := hK
  refine W.widen (k := 1) (n := 6) (Nat.le_of_ble_eq_true rfl) (Nat.le_of_ble_eq_true rfl) ?_
  refine va_putF (D := D) (ci := 0) (v := .ref q1) (ty := .array .short) (C := RX0) (T := TX0) (N := 11) hx hb hts in_X0 tyX0 tyX0_ok nmX0 hown hK hP hD hS 0 rfl rfl 1 (by decide) (hts _ q37) (fun _ h9 => h9) rfl hin rfl (by decide +kernel) rfl rfl (Nat.le_of_ble_eq_true rfl) dX0_init_9 (fun H locs hP hD hS => ?_)
  have hP : va_P D vwCl [(h0, .inr (0, [.int (iI 0), .ref q1, .null, .null, .null, .null, .null, .null, .int (iI 0), .int (iI 0), .null])), (q1, .inl (cA1, 6, .inl (zA zf)))] H := hP
  have hD : va_D A [(h0, .inr (0, [.int (iI 0), .ref q1, .null, .null, .null, .null, .null, .null, .int (iI 0), .int (iI 0), .null])), (q1, .inl (cA1, 6, .inl (zA zf)))] := hD
  refine lv_aload_n hx hb dX0_init_12 rfl (lv_at hl 0 rfl) ?_
  refine lv_bipush (v := iI 6) hx hb dX0_init_13 (by decide) ?_
  refine va_newa (atype := .short) (ty := .short) (a0 := (6, .inl (zA zf))) (N' := 6) hx hb (hts _ q70) rfl hK hP hD hS hA (fun _ => rfl) (by decide) (by decide) (by decide) (Nat.le_of_ble_eq_true rfl) (Nat.le_of_ble_eq_true rfl) dX0_init_15 (fun q2 cA2 H hK hP hD hS => ?_)
  have hP : va_P D vwCl [(h0, .inr (0, [.int (iI 0), .ref q1, .null, .null, .null, .null, .null, .null, .int (iI 0), .int (iI 0), .null])), (q1, .inl (cA1, 6, .inl (zA zf))), (q2, .inl (cA2, 6, .inl (zA zf)))] H := hP
  have hD : va_D A [(h0, .inr (0, [.int (iI 0), .ref q1, .null, .null, .null, .null, .null, .null, .int (iI 0), .int (iI 0), .null])), (q1, .inl (cA1, 6, .inl (zA zf))), (q2, .inl (cA2, 6, .inl (zA zf)))] := hD
  have hK : va_K D vwCl [(cA1, .short), (cA2, .short)] s := hK
  refine W.widen (k := 2) (n := 12) (Nat.le_of_ble_eq_true rfl) (Nat.le_of_ble_eq_true rfl) ?_
  refine va_putF (D := D) (ci := 0) (v := .ref q2) (ty := .array .short) (C := RX0) (T := TX0) (N := 11) hx hb hts in_X0 tyX0 tyX0_ok nmX0 hown hK hP hD hS 0 rfl rfl 2 (by decide) (hts _ q38) (fun _ h9 => h9) rfl hin rfl (by decide +kernel) rfl rfl (Nat.le_of_ble_eq_true rfl) dX0_init_17 (fun H locs hP hD hS => ?_)
  have hP : va_P D vwCl [(h0, .inr (0, [.int (iI 0), .ref q1, .ref q2, .null, .null, .null, .null, .null, .int (iI 0), .int (iI 0), .null])), (q1, .inl (cA1, 6, .inl (zA zf))), (q2, .inl (cA2, 6, .inl (zA zf)))] H := hP
  have hD : va_D A [(h0, .inr (0, [.int (iI 0), .ref q1, .ref q2, .null, .null, .null, .null, .null, .int (iI 0), .int (iI 0), .null])), (q1, .inl (cA1, 6, .inl (zA zf))), (q2, .inl (cA2, 6, .inl (zA zf)))] := hD
  refine lv_aload_n hx hb dX0_init_20 rfl (lv_at hl 0 rfl) ?_
  refine lv_bipush (v := iI 6) hx hb dX0_init_21 (by decide) ?_
  refine va_newa (atype := .short) (ty := .short) (a0 := (6, .inl (zA zf))) (N' := 6) hx hb (hts _ q70) rfl hK hP hD hS hA (fun _ => rfl) (by decide) (by decide) (by decide) (Nat.le_of_ble_eq_true rfl) (Nat.le_of_ble_eq_true rfl) dX0_init_23 (fun q3 cA3 H hK hP hD hS => ?_)
  have hP : va_P D vwCl [(h0, .inr (0, [.int (iI 0), .ref q1, .ref q2, .null, .null, .null, .null, .null, .int (iI 0), .int (iI 0), .null])), (q1, .inl (cA1, 6, .inl (zA zf))), (q2, .inl (cA2, 6, .inl (zA zf))), (q3, .inl (cA3, 6, .inl (zA zf)))] H := hP
  have hD : va_D A [(h0, .inr (0, [.int (iI 0), .ref q1, .ref q2, .null, .null, .null, .null, .null, .int (iI 0), .int (iI 0), .null])), (q1, .inl (cA1, 6, .inl (zA zf))), (q2, .inl (cA2, 6, .inl (zA zf))), (q3, .inl (cA3, 6, .inl (zA zf)))] := hD
  have hK : va_K D vwCl [(cA1, .short), (cA2, .short), (cA3, .short)] s := hK
  refine W.widen (k := 3) (n := 18) (Nat.le_of_ble_eq_true rfl) (Nat.le_of_ble_eq_true rfl) ?_
  refine va_putF (D := D) (ci := 0) (v := .ref q3) (ty := .array .short) (C := RX0) (T := TX0) (N := 11) hx hb hts in_X0 tyX0 tyX0_ok nmX0 hown hK hP hD hS 0 rfl rfl 3 (by decide) (hts _ q39) (fun _ h9 => h9) rfl hin rfl (by decide +kernel) rfl rfl (Nat.le_of_ble_eq_true rfl) dX0_init_25 (fun H locs hP hD hS => ?_)
  have hP : va_P D vwCl [(h0, .inr (0, [.int (iI 0), .ref q1, .ref q2, .ref q3, .null, .null, .null, .null, .int (iI 0), .int (iI 0), .null])), (q1, .inl (cA1, 6, .inl (zA zf))), (q2, .inl (cA2, 6, .inl (zA zf))), (q3, .inl (cA3, 6, .inl (zA zf)))] H := hP
  have hD : va_D A [(h0, .inr (0, [.int (iI 0), .ref q1, .ref q2, .ref q3, .null, .null, .null, .null, .int (iI 0), .int (iI 0), .null])), (q1, .inl (cA1, 6, .inl (zA zf))), (q2, .inl (cA2, 6, .inl (zA zf))), (q3, .inl (cA3, 6, .inl (zA zf)))] := hD
  refine lv_aload_n hx hb dX0_init_28 rfl (lv_at hl 0 rfl) ?_
  refine lv_bipush (v := iI 6) hx hb dX0_init_29 (by decide) ?_
  refine va_newa (atype := .short) (ty := .short) (a0 := (6, .inl (zA zf))) (N' := 6) hx hb (hts _ q70) rfl hK hP hD hS hA (fun _ => rfl) (by decide) (by decide) (by decide) (Nat.le_of_ble_eq_true rfl) (Nat.le_of_ble_eq_true rfl) dX0_init_31 (fun q4 cA4 H hK hP hD hS => ?_)
  have hP : va_P D vwCl [(h0, .inr (0, [.int (iI 0), .ref q1, .ref q2, .ref q3, .null, .null, .null, .null, .int (iI 0), .int (iI 0), .null])), (q1, .inl (cA1, 6, .inl (zA zf))), (q2, .inl (cA2, 6, .inl (zA zf))), (q3, .inl (cA3, 6, .inl (zA zf))), (q4, .inl (cA4, 6, .inl (zA zf)))] H := hP
  have hD : va_D A [(h0, .inr (0, [.int (iI 0), .ref q1, .ref q2, .ref q3, .null, .null, .null, .null, .int (iI 0), .int (iI 0), .null])), (q1, .inl (cA1, 6, .inl (zA zf))), (q2, .inl (cA2, 6, .inl (zA zf))), (q3, .inl (cA3, 6, .inl (zA zf))), (q4, .inl (cA4, 6, .inl (zA zf)))] := hD
  have hK : va_K D vwCl [(cA1, .short), (cA2, .short), (cA3, .short), (cA4, .short)] s := hK
  refine W.widen (k := 4) (n := 24) (Nat.le_of_ble_eq_true rfl) (Nat.le_of_ble_eq_true rfl) ?_
  refine va_putF (D := D) (ci := 0) (v := .ref q4) (ty := .array .short) (C := RX0) (T := TX0) (N := 11) hx hb hts in_X0 tyX0 tyX0_ok nmX0 hown hK hP hD hS 0 rfl rfl 4 (by decide) (hts _ q40) (fun _ h9 => h9) rfl hin rfl (by decide +kernel) rfl rfl (Nat.le_of_ble_eq_true rfl) dX0_init_33 (fun H locs hP hD hS => ?_)
  have hP : va_P D vwCl [(h0, .inr (0, [.int (iI 0), .ref q1, .ref q2, .ref q3, .ref q4, .null, .null, .null, .int (iI 0), .int (iI 0), .null])), (q1, .inl (cA1, 6, .inl (zA zf))), (q2, .inl (cA2, 6, .inl (zA zf))), (q3, .inl (cA3, 6, .inl (zA zf))), (q4, .inl (cA4, 6, .inl (zA zf)))] H := hP
  have hD : va_D A [(h0, .inr (0, [.int (iI 0), .ref q1, .ref q2, .ref q3, .ref q4, .null, .null, .null, .int (iI 0), .int (iI 0), .null])), (q1, .inl (cA1, 6, .inl (zA zf))), (q2, .inl (cA2, 6, .inl (zA zf))), (q3, .inl (cA3, 6, .inl (zA zf))), (q4, .inl (cA4, 6, .inl (zA zf)))] := hD
  refine lv_aload_n hx hb dX0_init_36 rfl (lv_at hl 0 rfl) ?_
  refine lv_bipush (v := iI 8) hx hb dX0_init_37 (by decide) ?_
  refine va_newa (atype := .byte) (ty := .byte) (a0 := (8, .inl (zA zf))) (N' := 8) hx hb (hts _ q71) rfl hK hP hD hS hA (fun _ => rfl) (by decide) (by decide) (by decide) (Nat.le_of_ble_eq_true rfl) (Nat.le_of_ble_eq_true rfl) dX0_init_39 (fun q5 cA5 H hK hP hD hS => ?_)
  have hP : va_P D vwCl [(h0, .inr (0, [.int (iI 0), .ref q1, .ref q2, .ref q3, .ref q4, .null, .null, .null, .int (iI 0), .int (iI 0), .null])), (q1, .inl (cA1, 6, .inl (zA zf))), (q2, .inl (cA2, 6, .inl (zA zf))), (q3, .inl (cA3, 6, .inl (zA zf))), (q4, .inl (cA4, 6, .inl (zA zf))), (q5, .inl (cA5, 8, .inl (zA zf)))] H := hP
  have hD : va_D A [(h0, .inr (0, [.int (iI 0), .ref q1, .ref q2, .ref q3, .ref q4, .null, .null, .null, .int (iI 0), .int (iI 0), .null])), (q1, .inl (cA1, 6, .inl (zA zf))), (q2, .inl (cA2, 6, .inl (zA zf))), (q3, .inl (cA3, 6, .inl (zA zf))), (q4, .inl (cA4, 6, .inl (zA zf))), (q5, .inl (cA5, 8, .inl (zA zf)))] := hD
  have hK : va_K D vwCl [(cA1, .short), (cA2, .short), (cA3, .short), (cA4, .short), (cA5, .byte)] s := hK
  refine W.widen (k := 5) (n := 32) (Nat.le_of_ble_eq_true rfl) (Nat.le_of_ble_eq_true rfl) ?_
  refine va_putF (D := D) (ci := 0) (v := .ref q5) (ty := .array .byte) (C := RX0) (T := TX0) (N := 11) hx hb hts in_X0 tyX0 tyX0_ok nmX0 hown hK hP hD hS 0 rfl rfl 5 (by decide) (hts _ q41) (fun _ h9 => h9) rfl hin rfl (by decide +kernel) rfl rfl (Nat.le_of_ble_eq_true rfl) dX0_init_41 (fun H locs hP hD hS => ?_)
  have hP : va_P D vwCl [(h0, .inr (0, [.int (iI 0), .ref q1, .ref q2, .ref q3, .ref q4, .ref q5, .null, .null, .int (iI 0), .int (iI 0), .null])), (q1, .inl (cA1, 6, .inl (zA zf))), (q2, .inl (cA2, 6, .inl (zA zf))), (q3, .inl (cA3, 6, .inl (zA zf))), (q4, .inl (cA4, 6, .inl (zA zf))), (q5, .inl (cA5, 8, .inl (zA zf)))] H := hP
  have hD : va_D A [(h0, .inr (0, [.int (iI 0), .ref q1, .ref q2, .ref q3, .ref q4, .ref q5, .null, .null, .int (iI 0), .int (iI 0), .null])), (q1, .inl (cA1, 6, .inl (zA zf))), (q2, .inl (cA2, 6, .inl (zA zf))), (q3, .inl (cA3, 6, .inl (zA zf))), (q4, .inl (cA4, 6, .inl (zA zf))), (q5, .inl (cA5, 8, .inl (zA zf)))] := hD
  refine lv_aload_n hx hb dX0_init_44 rfl (lv_at hl 0 rfl) ?_
  refine lv_bipush (v := iI 8) hx hb dX0_init_45 (by decide) ?_
  refine va_newa (atype := .int) (ty := .int) (a0 := (8, .inl (zA zf))) (N' := 8) hx hb (hts _ q72) rfl hK hP hD hS hA (fun _ => rfl) (by decide) (by decide) (by decide) (Nat.le_of_ble_eq_true rfl) (Nat.le_of_ble_eq_true rfl) dX0_init_47 (fun q6 cA6 H hK hP hD hS => ?_)
  have hP : va_P D vwCl [(h0, .inr (0, [.int (iI 0), .ref q1, .ref q2, .ref q3, .ref q4, .ref q5, .null, .null, .int (iI 0), .int (iI 0), .null])), (q1, .inl (cA1, 6, .inl (zA zf))), (q2, .inl (cA2, 6, .inl (zA zf))), (q3, .inl (cA3, 6, .inl (zA zf))), (q4, .inl (cA4, 6, .inl (zA zf))), (q5, .inl (cA5, 8, .inl (zA zf))), (q6, .inl (cA6, 8, .inl (zA zf)))] H := hP
  have hD : va_D A [(h0, .inr (0, [.int (iI 0), .ref q1, .ref q2, .ref q3, .ref q4, .ref q5, .null, .null, .int (iI 0), .int (iI 0), .null])), (q1, .inl (cA1, 6, .inl (zA zf))), (q2, .inl (cA2, 6, .inl (zA zf))), (q3, .inl (cA3, 6, .inl (zA zf))), (q4, .inl (cA4, 6, .inl (zA zf))), (q5, .inl (cA5, 8, .inl (zA zf))), (q6, .inl (cA6, 8, .inl (zA zf)))] := hD
  have hK : va_K D vwCl [(cA1, .short), (cA2, .short), (cA3, .short), (cA4, .short), (cA5, .byte), (cA6, .int)] s := hK
  refine W.widen (k := 6) (n := 40) (Nat.le_of_ble_eq_true rfl) (Nat.le_of_ble_eq_true rfl) ?_
  refine va_putF (D := D) (ci := 0) (v := .ref q6) (ty := .array .int) (C := RX0) (T := TX0) (N := 11) hx hb hts in_X0 tyX0 tyX0_ok nmX0 hown hK hP hD hS 0 rfl rfl 6 (by decide) (hts _ q42) (fun _ h9 => h9) rfl hin rfl (by decide +kernel) rfl rfl (Nat.le_of_ble_eq_true rfl) dX0_init_49 (fun H locs hP hD hS => ?_)
  have hP : va_P D vwCl [(h0, .inr (0, [.int (iI 0), .ref q1, .ref q2, .ref q3, .ref q4, .ref q5, .ref q6, .null, .int (iI 0), .int (iI 0), .null])), (q1, .inl (cA1, 6, .inl (zA zf))), (q2, .inl (cA2, 6, .inl (zA zf))), (q3, .inl (cA3, 6, .inl (zA zf))), (q4, .inl (cA4, 6, .inl (zA zf))), (q5, .inl (cA5, 8, .inl (zA zf))), (q6, .inl (cA6, 8, .inl (zA zf)))] H := hP
  have hD : va_D A [(h0, .inr (0, [.int (iI 0), .ref q1, .ref q2, .ref q3, .ref q4, .ref q5, .ref q6, .null, .int (iI 0), .int (iI 0), .null])), (q1, .inl (cA1, 6, .inl (zA zf))), (q2, .inl (cA2, 6, .inl (zA zf))), (q3, .inl (cA3, 6, .inl (zA zf))), (q4, .inl (cA4, 6, .inl (zA zf))), (q5, .inl (cA5, 8, .inl (zA zf))), (q6, .inl (cA6, 8, .inl (zA zf)))] := hD
  refine lv_aload_n hx hb dX0_init_52 rfl (lv_at hl 0 rfl) ?_
  refine lv_bipush (v := iI 8) hx hb dX0_init_53 (by decide) ?_
  refine va_newa (atype := .int) (ty := .int) (a0 := (8, .inl (zA zf))) (N' := 8) hx hb (hts _ q72) rfl hK hP hD hS hA (fun _ => rfl) (by decide) (by decide) (by decide) (Nat.le_of_ble_eq_true rfl) (Nat.le_of_ble_eq_true rfl) dX0_init_55 (fun q7 cA7 H hK hP hD hS => ?_)
  have hP : va_P D vwCl [(h0, .inr (0, [.int (iI 0), .ref q1, .ref q2, .ref q3, .ref q4, .ref q5, .ref q6, .null, .int (iI 0), .int (iI 0), .null])), (q1, .inl (cA1, 6, .inl (zA zf))), (q2, .inl (cA2, 6, .inl (zA zf))), (q3, .inl (cA3, 6, .inl (zA zf))), (q4, .inl (cA4, 6, .inl (zA zf))), (q5, .inl (cA5, 8, .inl (zA zf))), (q6, .inl (cA6, 8, .inl (zA zf))), (q7, .inl (cA7, 8, .inl (zA zf)))] H := hP
  have hD : va_D A [(h0, .inr (0, [.int (iI 0), .ref q1, .ref q2, .ref q3, .ref q4, .ref q5, .ref q6, .null, .int (iI 0), .int (iI 0), .null])), (q1, .inl (cA1, 6, .inl (zA zf))), (q2, .inl (cA2, 6, .inl (zA zf))), (q3, .inl (cA3, 6, .inl (zA zf))), (q4, .inl (cA4, 6, .inl (zA zf))), (q5, .inl (cA5, 8, .inl (zA zf))), (q6, .inl (cA6, 8, .inl (zA zf))), (q7, .inl (cA7, 8, .inl (zA zf)))] := hD
  have hK : va_K D vwCl [(cA1, .short), (cA2, .short), (cA3, .short), (cA4, .short), (cA5, .byte), (cA6, .int), (cA7, .int)] s := hK
  refine W.widen (k := 7) (n := 48) (Nat.le_of_ble_eq_true rfl) (Nat.le_of_ble_eq_true rfl) ?_
  refine va_putF (D := D) (ci := 0) (v := .ref q7) (ty := .array .int) (C := RX0) (T := TX0) (N := 11) hx hb hts in_X0 tyX0 tyX0_ok nmX0 hown hK hP hD hS 0 rfl rfl 7 (by decide) (hts _ q43) (fun _ h9 => h9) rfl hin rfl (by decide +kernel) rfl rfl (Nat.le_of_ble_eq_true rfl) dX0_init_57 (fun H locs hP hD hS => ?_)
  have hP : va_P D vwCl [(h0, .inr (0, [.int (iI 0), .ref q1, .ref q2, .ref q3, .ref q4, .ref q5, .ref q6, .ref q7, .int (iI 0), .int (iI 0), .null])), (q1, .inl (cA1, 6, .inl (zA zf))), (q2, .inl (cA2, 6, .inl (zA zf))), (q3, .inl (cA3, 6, .inl (zA zf))), (q4, .inl (cA4, 6, .inl (zA zf))), (q5, .inl (cA5, 8, .inl (zA zf))), (q6, .inl (cA6, 8, .inl (zA zf))), (q7, .inl (cA7, 8, .inl (zA zf)))] H := hP
  have hD : va_D A [(h0, .inr (0, [.int (iI 0), .ref q1, .ref q2, .ref q3, .ref q4, .ref q5, .ref q6, .ref q7, .int (iI 0), .int (iI 0), .null])), (q1, .inl (cA1, 6, .inl (zA zf))), (q2, .inl (cA2, 6, .inl (zA zf))), (q3, .inl (cA3, 6, .inl (zA zf))), (q4, .inl (cA4, 6, .inl (zA zf))), (q5, .inl (cA5, 8, .inl (zA zf))), (q6, .inl (cA6, 8, .inl (zA zf))), (q7, .inl (cA7, 8, .inl (zA zf)))] := hD
  refine lv_aload_n hx hb dX0_init_60 rfl (lv_at hl 0 rfl) ?_
  refine lv_bipush (v := iI 6) hx hb dX0_init_61 (by decide) ?_
  refine va_newa (atype := .byte) (ty := .byte) (a0 := (6, .inl (zA zf))) (N' := 6) hx hb (hts _ q71) rfl hK hP hD hS hA (fun _ => rfl) (by decide) (by decide) (by decide) (Nat.le_of_ble_eq_true rfl) (Nat.le_of_ble_eq_true rfl) dX0_init_63 (fun q8 cA8 H hK hP hD hS => ?_)
  have hP : va_P D vwCl [(h0, .inr (0, [.int (iI 0), .ref q1, .ref q2, .ref q3, .ref q4, .ref q5, .ref q6, .ref q7, .int (iI 0), .int (iI 0), .null])), (q1, .inl (cA1, 6, .inl (zA zf))), (q2, .inl (cA2, 6, .inl (zA zf))), (q3, .inl (cA3, 6, .inl (zA zf))), (q4, .inl (cA4, 6, .inl (zA zf))), (q5, .inl (cA5, 8, .inl (zA zf))), (q6, .inl (cA6, 8, .inl (zA zf))), (q7, .inl (cA7, 8, .inl (zA zf))), (q8, .inl (cA8, 6, .inl (zA zf)))] H := hP
  have hD : va_D A [(h0, .inr (0, [.int (iI 0), .ref q1, .ref q2, .ref q3, .ref q4, .ref q5, .ref q6, .ref q7, .int (iI 0), .int (iI 0), .null])), (q1, .inl (cA1, 6, .inl (zA zf))), (q2, .inl (cA2, 6, .inl (zA zf))), (q3, .inl (cA3, 6, .inl (zA zf))), (q4, .inl (cA4, 6, .inl (zA zf))), (q5, .inl (cA5, 8, .inl (zA zf))), (q6, .inl (cA6, 8, .inl (zA zf))), (q7, .inl (cA7, 8, .inl (zA zf))), (q8, .inl (cA8, 6, .inl (zA zf)))] := hD
  have hK : va_K D vwCl [(cA1, .short), (cA2, .short), (cA3, .short), (cA4, .short), (cA5, .byte), (cA6, .int), (cA7, .int), (cA8, .byte)] s := hK
  refine W.widen (k := 8) (n := 54) (Nat.le_of_ble_eq_true rfl) (Nat.le_of_ble_eq_true rfl) ?_
  refine va_putF (D := D) (ci := 0) (v := .ref q8) (ty := .array .byte) (C := RX0) (T := TX0) (N := 11) hx hb hts in_X0 tyX0 tyX0_ok nmX0 hown hK hP hD hS 0 rfl rfl 10 (by decide) (hts _ q46) (fun _ h9 => h9) rfl hin rfl (by decide +kernel) rfl rfl (Nat.le_of_ble_eq_true rfl) dX0_init_65 (fun H locs hP hD hS => ?_)
  have hP : va_P D vwCl [(h0, .inr (0, [.int (iI 0), .ref q1, .ref q2, .ref q3, .ref q4, .ref q5, .ref q6, .ref q7, .int (iI 0), .int (iI 0), .ref q8])), (q1, .inl (cA1, 6, .inl (zA zf))), (q2, .inl (cA2, 6, .inl (zA zf))), (q3, .inl (cA3, 6, .inl (zA zf))), (q4, .inl (cA4, 6, .inl (zA zf))), (q5, .inl (cA5, 8, .inl (zA zf))), (q6, .inl (cA6, 8, .inl (zA zf))), (q7, .inl (cA7, 8, .inl (zA zf))), (q8, .inl (cA8, 6, .inl (zA zf)))] H := hP
  have hD : va_D A [(h0, .inr (0, [.int (iI 0), .ref q1, .ref q2, .ref q3, .ref q4, .ref q5, .ref q6, .ref q7, .int (iI 0), .int (iI 0), .ref q8])), (q1, .inl (cA1, 6, .inl (zA zf))), (q2, .inl (cA2, 6, .inl (zA zf))), (q3, .inl (cA3, 6, .inl (zA zf))), (q4, .inl (cA4, 6, .inl (zA zf))), (q5, .inl (cA5, 8, .inl (zA zf))), (q6, .inl (cA6, 8, .inl (zA zf))), (q7, .inl (cA7, 8, .inl (zA zf))), (q8, .inl (cA8, 6, .inl (zA zf)))] := hD
  exact W.vret hx hb hr (fun t ht hW => ⟨⟨((fun k => match k with | 0 => h0 | 1 => q1 | 2 => q2 | 3 => q3 | 4 => q4 | 5 => q5 | 6 => q6 | 7 => q7 | _ => q8), (fun k => match k with | 0 => cA1 | 1 => cA2 | 2 => cA3 | 3 => cA4 | 4 => cA5 | 5 => cA6 | 6 => cA7 | _ => cA8)), rfl, rfl, by rw [ht]; exact hP, va_K.moved hW.alike hK, hD⟩, hS.F ht⟩) hS.2.2 dX0_init_68
abbrev fs0Y : List Value := [.null, .null, .int (iI 0), .int (iI 0), .null, .null]
set_option maxHeartbeats 4000000 in
/-- the constructor: new arrays, all zero -/
theorem mY_init (l : Launch) (D : va_G) (h0 sz : Nat) : Met l yX1_init (ws_ yX1_init cX1_init 1 none) ({ frames := 1, cells := 4, slots := 36, locals := 12 }) (va_Pc [.ref h0] (fun U => U.heap.size = sz ∧ va_P D vwCl [(h0, .inr (1, fs0Y))] U.heap ∧ va_K D vwCl [] U ∧ va_D (fun _ => True) [(h0, .inr (1, fs0Y))])) (va_Qv (fun (u : (Nat → Nat) × (Nat → ClassId)) => u.1 0 = h0) (fun u t => yWu D u.1 u.2 (va_A [(h0, .inr (1, fs0Y))] sz) (zf, zf, (0 : Int), (0 : Int), zf, zf) t) (va_A [(h0, .inr (1, fs0Y))] sz)) 4 36 (va_A [(h0, .inr (1, fs0Y))] sz) := by
  refine Met.ofW (cc := cX1_init) (maxL := 1) (ret := none) (by decide) rfl ?_
  intro p e s m args below meth c s₁ B hml hv
  obtain ⟨rfl, hsz, hP, hK, hD0⟩ := hv
  have hx := B.exec
  have hb := B.bytes
  have hr := B.returns
  have hts := atoms_spec (ws := ws_ yX1_init cX1_init 1 none) B.pre
  have hts : ∀ w ∈ lw_all, w.before _ s = true := fun w h => hts w (List.mem_cons_of_mem _ h)
  have hown : s.vm.findClass RX1 = some m.cls := findClass_of_methodNamed B.named
  have hlocks := B.notSynchronized
  have hin : meth.name = "<init>" := (name_of_methodNamed B.named B.method).1
  subst hsz
  have hD := hD0.self (sz := s.heap.size)
  generalize hAe : va_A [(h0, .inr (1, fs0Y))] s.heap.size = A at hD ⊢
  have hA : ∀ q : Nat, s.heap.size ≤ q → A q := fun q h => by rw [← hAe]; exact Or.inr h
  have hS : va_S A s.heap s.heap [] := va_S.rf
  have hl := lv_entry ([.ref h0]) (n := 1) (Nat.le_of_ble_eq_true rfl)
  rw [lg_entry_eq]
  generalize (lg_sl ([.ref h0]) ++ List.replicate (1 - (lg_sl ([.ref h0])).length) Slot.unset).toArray = ls at hl ⊢
  have hl : lv_has ls 1 [(0, .ref h0)] := hl
  refine lv_aload_n hx hb dX1_init_0 rfl (lv_at hl 0 rfl) ?_
  refine W.objInit hx hb hown (hts _ q190) (hts _ q34) (hts _ q35) rfl (by rw [hml]; exact hl.1) rfl dX1_init_1 (Nat.le_of_ble_eq_true rfl) (Nat.le_of_ble_eq_true rfl) ?_
  refine W.eq (g2 := F0 m 4 ls []) rfl ?_
  refine lv_aload_n hx hb dX1_init_4 rfl (lv_at hl 0 rfl) ?_
  refine lv_bipush (v := iI 6) hx hb dX1_init_5 (by decide) ?_
  refine va_newa (atype := .boolean) (ty := .boolean) (a0 := (6, .inl (zA zf))) (N' := 6) hx hb (hts _ q210) rfl hK hP hD hS hA (fun _ => rfl) (by decide) (by decide) (by decide) (Nat.le_of_ble_eq_true rfl) (Nat.le_of_ble_eq_true rfl) dX1_init_7 (fun q1 cA1 H hK hP hD hS => ?_)
  have hP : va_P D vwCl [(h0, .inr (1, [.null, .null, .int (iI 0), .int (iI 0), .null, .null])), (q1, .inl (cA1, 6, .inl (zA zf)))] H := hP
  have hD : va_D A [(h0, .inr (1, [.null, .null, .int (iI 0), .int (iI 0), .null, .null])), (q1, .inl (cA1, 6, .inl (zA zf)))] := hD
  have hK : va_K D vwCl [(cA1, .boolean)] s := hK
  refine W.widen (k := 1) (n := 6) (Nat.le_of_ble_eq_true rfl) (Nat.le_of_ble_eq_true rfl) ?_
  refine va_put (D := D) (ci := 1) (v := .ref q1) (ty := .array .boolean) (C := RX1) (T := TX1) (N := 6) hx hb hts in_X1 tyX1 tyX1_ok nmX1 hown hK hP hD hS 0 rfl rfl 0 (by decide) (hts _ q191) (fun _ h9 => h9) rfl (by decide +kernel) rfl rfl (Nat.le_of_ble_eq_true rfl) dX1_init_9 (fun H locs hP hD hS => ?_)
  have hP : va_P D vwCl [(h0, .inr (1, [.ref q1, .null, .int (iI 0), .int (iI 0), .null, .null])), (q1, .inl (cA1, 6, .inl (zA zf)))] H := hP
  have hD : va_D A [(h0, .inr (1, [.ref q1, .null, .int (iI 0), .int (iI 0), .null, .null])), (q1, .inl (cA1, 6, .inl (zA zf)))] := hD
  refine lv_aload_n hx hb dX1_init_12 rfl (lv_at hl 0 rfl) ?_
  refine lv_bipush (v := iI 18) hx hb dX1_init_13 (by decide) ?_
  refine va_newa (atype := .int) (ty := .int) (a0 := (18, .inl (zA zf))) (N' := 18) hx hb (hts _ q72) rfl hK hP hD hS hA (fun _ => rfl) (by decide) (by decide) (by decide) (Nat.le_of_ble_eq_true rfl) (Nat.le_of_ble_eq_true rfl) dX1_init_15 (fun q2 cA2 H hK hP hD hS => ?_)
  have hP : va_P D vwCl [(h0, .inr (1, [.ref q1, .null, .int (iI 0), .int (iI 0), .null, .null])), (q1, .inl (cA1, 6, .inl (zA zf))), (q2, .inl (cA2, 18, .inl (zA zf)))] H := hP
  have hD : va_D A [(h0, .inr (1, [.ref q1, .null, .int (iI 0), .int (iI 0), .null, .null])), (q1, .inl (cA1, 6, .inl (zA zf))), (q2, .inl (cA2, 18, .inl (zA zf)))] := hD
  have hK : va_K D vwCl [(cA1, .boolean), (cA2, .int)] s := hK
  refine W.widen (k := 2) (n := 24) (Nat.le_of_ble_eq_true rfl) (Nat.le_of_ble_eq_true rfl) ?_
  refine va_put (D := D) (ci := 1) (v := .ref q2) (ty := .array .int) (C := RX1) (T := TX1) (N := 6) hx hb hts in_X1 tyX1 tyX1_ok nmX1 hown hK hP hD hS 0 rfl rfl 1 (by decide) (hts _ q192) (fun _ h9 => h9) rfl (by decide +kernel) rfl rfl (Nat.le_of_ble_eq_true rfl) dX1_init_17 (fun H locs hP hD hS => ?_)
  have hP : va_P D vwCl [(h0, .inr (1, [.ref q1, .ref q2, .int (iI 0), .int (iI 0), .null, .null])), (q1, .inl (cA1, 6, .inl (zA zf))), (q2, .inl (cA2, 18, .inl (zA zf)))] H := hP
  have hD : va_D A [(h0, .inr (1, [.ref q1, .ref q2, .int (iI 0), .int (iI 0), .null, .null])), (q1, .inl (cA1, 6, .inl (zA zf))), (q2, .inl (cA2, 18, .inl (zA zf)))] := hD
  refine lv_aload_n hx hb dX1_init_20 rfl (lv_at hl 0 rfl) ?_
  refine lv_bipush (v := iI 6) hx hb dX1_init_21 (by decide) ?_
  refine va_newa (atype := .int) (ty := .int) (a0 := (6, .inl (zA zf))) (N' := 6) hx hb (hts _ q72) rfl hK hP hD hS hA (fun _ => rfl) (by decide) (by decide) (by decide) (Nat.le_of_ble_eq_true rfl) (Nat.le_of_ble_eq_true rfl) dX1_init_23 (fun q3 cA3 H hK hP hD hS => ?_)
  have hP : va_P D vwCl [(h0, .inr (1, [.ref q1, .ref q2, .int (iI 0), .int (iI 0), .null, .null])), (q1, .inl (cA1, 6, .inl (zA zf))), (q2, .inl (cA2, 18, .inl (zA zf))), (q3, .inl (cA3, 6, .inl (zA zf)))] H := hP
  have hD : va_D A [(h0, .inr (1, [.ref q1, .ref q2, .int (iI 0), .int (iI 0), .null, .null])), (q1, .inl (cA1, 6, .inl (zA zf))), (q2, .inl (cA2, 18, .inl (zA zf))), (q3, .inl (cA3, 6, .inl (zA zf)))] := hD
  have hK : va_K D vwCl [(cA1, .boolean), (cA2, .int), (cA3, .int)] s := hK
  refine W.widen (k := 3) (n := 30) (Nat.le_of_ble_eq_true rfl) (Nat.le_of_ble_eq_true rfl) ?_
  refine va_put (D := D) (ci := 1) (v := .ref q3) (ty := .array .int) (C := RX1) (T := TX1) (N := 6) hx hb hts in_X1 tyX1 tyX1_ok nmX1 hown hK hP hD hS 0 rfl rfl 4 (by decide) (hts _ q195) (fun _ h9 => h9) rfl (by decide +kernel) rfl rfl (Nat.le_of_ble_eq_true rfl) dX1_init_25 (fun H locs hP hD hS => ?_)
  have hP : va_P D vwCl [(h0, .inr (1, [.ref q1, .ref q2, .int (iI 0), .int (iI 0), .ref q3, .null])), (q1, .inl (cA1, 6, .inl (zA zf))), (q2, .inl (cA2, 18, .inl (zA zf))), (q3, .inl (cA3, 6, .inl (zA zf)))] H := hP
  have hD : va_D A [(h0, .inr (1, [.ref q1, .ref q2, .int (iI 0), .int (iI 0), .ref q3, .null])), (q1, .inl (cA1, 6, .inl (zA zf))), (q2, .inl (cA2, 18, .inl (zA zf))), (q3, .inl (cA3, 6, .inl (zA zf)))] := hD
  refine lv_aload_n hx hb dX1_init_28 rfl (lv_at hl 0 rfl) ?_
  refine lv_bipush (v := iI 6) hx hb dX1_init_29 (by decide) ?_
  refine va_newa (atype := .int) (ty := .int) (a0 := (6, .inl (zA zf))) (N' := 6) hx hb (hts _ q72) rfl hK hP hD hS hA (fun _ => rfl) (by decide) (by decide) (by decide) (Nat.le_of_ble_eq_true rfl) (Nat.le_of_ble_eq_true rfl) dX1_init_31 (fun q4 cA4 H hK hP hD hS => ?_)
  have hP : va_P D vwCl [(h0, .inr (1, [.ref q1, .ref q2, .int (iI 0), .int (iI 0), .ref q3, .null])), (q1, .inl (cA1, 6, .inl (zA zf))), (q2, .inl (cA2, 18, .inl (zA zf))), (q3, .inl (cA3, 6, .inl (zA zf))), (q4, .inl (cA4, 6, .inl (zA zf)))] H := hP
  have hD : va_D A [(h0, .inr (1, [.ref q1, .ref q2, .int (iI 0), .int (iI 0), .ref q3, .null])), (q1, .inl (cA1, 6, .inl (zA zf))), (q2, .inl (cA2, 18, .inl (zA zf))), (q3, .inl (cA3, 6, .inl (zA zf))), (q4, .inl (cA4, 6, .inl (zA zf)))] := hD
  have hK : va_K D vwCl [(cA1, .boolean), (cA2, .int), (cA3, .int), (cA4, .int)] s := hK
  refine W.widen (k := 4) (n := 36) (Nat.le_of_ble_eq_true rfl) (Nat.le_of_ble_eq_true rfl) ?_
  refine va_put (D := D) (ci := 1) (v := .ref q4) (ty := .array .int) (C := RX1) (T := TX1) (N := 6) hx hb hts in_X1 tyX1 tyX1_ok nmX1 hown hK hP hD hS 0 rfl rfl 5 (by decide) (hts _ q196) (fun _ h9 => h9) rfl (by decide +kernel) rfl rfl (Nat.le_of_ble_eq_true rfl) dX1_init_33 (fun H locs hP hD hS => ?_)
  have hP : va_P D vwCl [(h0, .inr (1, [.ref q1, .ref q2, .int (iI 0), .int (iI 0), .ref q3, .ref q4])), (q1, .inl (cA1, 6, .inl (zA zf))), (q2, .inl (cA2, 18, .inl (zA zf))), (q3, .inl (cA3, 6, .inl (zA zf))), (q4, .inl (cA4, 6, .inl (zA zf)))] H := hP
  have hD : va_D A [(h0, .inr (1, [.ref q1, .ref q2, .int (iI 0), .int (iI 0), .ref q3, .ref q4])), (q1, .inl (cA1, 6, .inl (zA zf))), (q2, .inl (cA2, 18, .inl (zA zf))), (q3, .inl (cA3, 6, .inl (zA zf))), (q4, .inl (cA4, 6, .inl (zA zf)))] := hD
  exact W.vret hx hb hr (fun t ht hW => ⟨⟨((fun k => match k with | 0 => h0 | 1 => q1 | 2 => q2 | 3 => q3 | _ => q4), (fun k => match k with | 0 => cA1 | 1 => cA2 | 2 => cA3 | _ => cA4)), rfl, rfl, by rw [ht]; exact hP, va_K.moved hW.alike hK, hD⟩, hS.F ht⟩) hS.2.2 dX1_init_36
end
section
/-! what holds between the class and the reference; their answers agree -/
set_option maxRecDepth 100000
def lawC (P : Nat) (rel len tl : Nat → Int) (kn ll : Int) (bo th pt : Nat → Int) : Prop := P < 64 ∧ (∀ j, j < 6 → 0 ≤ rel j ∧ rel j ≤ 40 ∧ 0 ≤ len j ∧ len j ≤ 12 ∧ 0 ≤ tl j ∧ tl j ≤ 40) ∧ (∀ j, j < 6 → P.testBit j = true → 1 ≤ len j) ∧ knst P rel len tl kn ll bo ∧ yOK th pt P rel len tl
abbrev lawU (u : XS) (v : YS) : Prop := lawC u.1 u.2.1 u.2.2.1 u.2.2.2.1 u.2.2.2.2.2.2.2.2.1 u.2.2.2.2.2.2.2.2.2.1 u.2.2.2.2.2.2.2.2.2.2 v.1 v.2.1
theorem lawC_d {P : Nat} {rel len tl : Nat → Int} {kn ll : Int} {bo th pt : Nat → Int} (H : lawC P rel len tl kn ll bo th pt) : dOK rel len tl := fun j hj => by
  have := H.2.1 j hj
  omega
theorem lawC_40 {P : Nat} {rel len tl : Nat → Int} {kn ll : Int} {bo th pt : Nat → Int} (H : lawC P rel len tl kn ll bo th pt) : ∀ j, j < 6 → rel j ≤ 40 ∧ tl j ≤ 40 := fun j hj => by
  have := H.2.1 j hj
  omega
theorem lawC_0 : lawC 0 zf zf zf 0 0 zf zf zf := by
  refine ⟨by decide, fun j _ => ?_, fun j _ h => by simp at h, Or.inl rfl, by decide, fun j _ => by simp [zf], fun j _ => ⟨rfl, rfl, rfl⟩⟩
  unfold zf
  omega
/-- the parts of job k written -/
theorem put_parts {pt rel len tl : Nat → Int} {k : Nat} {r q t : Int} (h : ∀ j, j < 6 → pt (3 * j) = rel j ∧ pt (3 * j + 1) = len j ∧ pt (3 * j + 2) = tl j) : ∀ j, j < 6 → updZ (updZ (updZ pt (3 * k) r) (3 * k + 1) q) (3 * k + 2) t (3 * j) = updZ rel k r j ∧ updZ (updZ (updZ pt (3 * k) r) (3 * k + 1) q) (3 * k + 2) t (3 * j + 1) = updZ len k q j ∧ updZ (updZ (updZ pt (3 * k) r) (3 * k + 1) q) (3 * k + 2) t (3 * j + 2) = updZ tl k t j := fun j hj => by
  obtain ⟨g0, g1, g2⟩ := h j hj
  by_cases e : j = k
  · subst e
    refine ⟨?_, ?_, ?_⟩
    · rw [updZ_n (by omega), updZ_n (by omega), updZ_s, updZ_s]
    · rw [updZ_n (by omega), updZ_s, updZ_s]
    · rw [updZ_s, updZ_s]
  · refine ⟨?_, ?_, ?_⟩
    · rw [updZ_n (by omega), updZ_n (by omega), updZ_n (by omega), updZ_n e]; exact g0
    · rw [updZ_n (by omega), updZ_n (by omega), updZ_n (by omega), updZ_n e]; exact g1
    · rw [updZ_n (by omega), updZ_n (by omega), updZ_n (by omega), updZ_n e]; exact g2
theorem put_bounds {rel len tl : Nat → Int} {k : Nat} {r q t : Int} (hv : numOk r q t) (h : ∀ j, j < 6 → 0 ≤ rel j ∧ rel j ≤ 40 ∧ 0 ≤ len j ∧ len j ≤ 12 ∧ 0 ≤ tl j ∧ tl j ≤ 40) : ∀ j, j < 6 → 0 ≤ updZ rel k r j ∧ updZ rel k r j ≤ 40 ∧ 0 ≤ updZ len k q j ∧ updZ len k q j ≤ 12 ∧ 0 ≤ updZ tl k t j ∧ updZ tl k t j ≤ 40 := fun j hj => by
  unfold numOk at hv
  have := h j hj
  by_cases e : j = k
  · subst e; rw [updZ_s, updZ_s, updZ_s]; omega
  · rw [updZ_n e, updZ_n e, updZ_n e]; exact this
section LAWS
variable {P : Nat} {rel len tl lf tr dn ln : Nat → Int} {kn ll : Int} {bo th pt li st : Nat → Int} {nn od : Int}
theorem law_put (H : lawC P rel len tl kn ll bo th pt) {k : Nat} {r q t : Int} (hk : k < 6) (hb : P.testBit k = true) (hv : numOk r q t) : lawC P (updZ rel k r) (updZ len k q) (updZ tl k t) 0 ll bo th (updZ (updZ (updZ pt (3 * k) r) (3 * k + 1) q) (3 * k + 2) t) := by
  refine ⟨H.1, put_bounds hv H.2.1, fun j hj h => ?_, Or.inl rfl, H.1, H.2.2.2.2.2.1, put_parts H.2.2.2.2.2.2⟩
  have hv2 := hv
  unfold numOk at hv2
  by_cases e : j = k
  · subst e; rw [updZ_s]; omega
  · rw [updZ_n e]; exact H.2.2.1 j hj h
theorem law_new (H : lawC P rel len tl kn ll bo th pt) {k : Nat} {r q t : Int} (hk : k < 6) (hv : numOk r q t) : lawC (P ||| 2 ^ k) (updZ rel k r) (updZ len k q) (updZ tl k t) 0 ll bo (updZ th k 1) (updZ (updZ (updZ pt (3 * k) r) (3 * k + 1) q) (3 * k + 2) t) := by
  have hP2 := or_lt H.1 hk
  refine ⟨hP2, put_bounds hv H.2.1, fun j hj h => ?_, Or.inl rfl, hP2, fun j hj => ?_, put_parts H.2.2.2.2.2.2⟩
  · have hv2 := hv
    unfold numOk at hv2
    by_cases e : j = k
    · subst e; rw [updZ_s]; omega
    · rw [updZ_n e]
      refine H.2.2.1 j hj ?_
      rw [or_one] at h
      have e2 : ¬ k = j := fun z => e z.symm
      simpa [e2] using h
  · rw [or_one]
    by_cases e : j = k
    · subst e; rw [updZ_s]; simp
    · rw [updZ_n e]
      have e2 : ¬ k = j := fun z => e z.symm
      have := H.2.2.2.2.2.1 j hj
      simpa [e2] using this
theorem law_off (H : lawC P rel len tl kn ll bo th pt) {k : Nat} (hk : k < 6) : lawC (sd P (2 ^ k)) rel len tl 0 ll bo (updZ th k 0) pt := by
  have hP2 := sd_lt (2 ^ k) H.1
  refine ⟨hP2, H.2.1, fun j hj h => ?_, Or.inl rfl, hP2, fun j hj => ?_, H.2.2.2.2.2.2⟩
  · rw [sd_one] at h
    simp only [Bool.and_eq_true] at h
    exact H.2.2.1 j hj h.1
  · rw [sd_one]
    by_cases e : j = k
    · subst e; rw [updZ_s]; simp
    · rw [updZ_n e]
      have e2 : ¬ k = j := fun z => e z.symm
      have := H.2.2.2.2.2.1 j hj
      simpa [e2] using this
theorem law_add (H : lawC P rel len tl kn ll bo th pt) {r q t zx zy : Int} {u : XS} {v : YS}
    (hx : (zx = -1 ∧ ¬ numOk r q t ∧ u = (P, rel, len, tl, lf, tr, dn, ln, kn, ll, bo)) ∨ (numOk r q t ∧ ∃ k : Nat, k < 6 ∧ zx = (k : Int) ∧ P.testBit k = false ∧ (∀ i, i < k → P.testBit i = true) ∧ u = (P ||| 2 ^ k, updZ rel k r, updZ len k q, updZ tl k t, lf, tr, dn, ln, 0, ll, bo)) ∨ (zx = -2 ∧ numOk r q t ∧ (∀ i, i < 6 → P.testBit i = true) ∧ u = (P, rel, len, tl, lf, tr, dn, ln, kn, ll, bo)))
    (hy : (zy = -1 ∧ ¬ numOk r q t ∧ v = (th, pt, nn, od, li, st)) ∨ (numOk r q t ∧ ∃ k : Nat, k < 6 ∧ zy = (k : Int) ∧ P.testBit k = false ∧ (∀ i, i < k → P.testBit i = true) ∧ v = (updZ th k 1, (updZ (updZ (updZ pt (3 * k) r) (3 * k + 1) q) (3 * k + 2) t), nn, od, li, st)) ∨ (zy = -2 ∧ numOk r q t ∧ (∀ i, i < 6 → P.testBit i = true) ∧ v = (th, pt, nn, od, li, st))) : zx = zy ∧ lawU u v := by
  rcases hx with ⟨a1, a2, rfl⟩ | ⟨a1, k, a2, a3, a4, a5, rfl⟩ | ⟨a1, a2, a3, rfl⟩ <;> rcases hy with ⟨b1, b2, rfl⟩ | ⟨b1, k', b2, b3, b4, b5, rfl⟩ | ⟨b1, b2, b3, rfl⟩
  · exact ⟨by omega, H⟩
  · exact absurd b1 a2
  · exact absurd b2 a2
  · exact absurd a1 b2
  · have e : k = k' := by
      rcases Nat.lt_trichotomy k k' with q | q | q
      · have := b5 k q
        rw [this] at a4
        cases a4
      · exact q
      · have := a5 k' q
        rw [this] at b4
        cases b4
    subst e
    exact ⟨by omega, law_new H a2 a1⟩
  · have := b3 k a2
    rw [this] at a4
    cases a4
  · exact absurd a2 b2
  · have := a3 k' b2
    rw [this] at b4
    cases b4
  · exact ⟨by omega, H⟩
theorem law_remove (H : lawC P rel len tl kn ll bo th pt) {j zx zy : Int} {u : XS} {v : YS}
    (hx : (zx = 1 ∧ ∃ k : Nat, j = (k : Int) ∧ k < 6 ∧ P.testBit k = true ∧ u = (sd P (2 ^ k), rel, len, tl, lf, tr, dn, ln, 0, ll, bo)) ∨ (zx = 0 ∧ (∀ k : Nat, j = (k : Int) → k < 6 → P.testBit k = false) ∧ u = (P, rel, len, tl, lf, tr, dn, ln, kn, ll, bo)))
    (hy : (zy = 1 ∧ ∃ k : Nat, j = (k : Int) ∧ k < 6 ∧ P.testBit k = true ∧ v = (updZ th k 0, pt, nn, od, li, st)) ∨ (zy = 0 ∧ (∀ k : Nat, j = (k : Int) → k < 6 → P.testBit k = false) ∧ v = (th, pt, nn, od, li, st))) : zx = zy ∧ lawU u v := by
  rcases hx with ⟨a1, k, a2, a3, a4, rfl⟩ | ⟨a1, a2, rfl⟩ <;> rcases hy with ⟨b1, k', b2, b3, b4, rfl⟩ | ⟨b1, b2, rfl⟩
  · have e : k = k' := by omega
    subst e
    exact ⟨by omega, law_off H a3⟩
  · have := b2 k a2 a3
    rw [this] at a4
    cases a4
  · have := a2 k' b2 b3
    rw [this] at b4
    cases b4
  · exact ⟨by omega, H⟩
theorem law_change (H : lawC P rel len tl kn ll bo th pt) {j r q t zx zy : Int} {u : XS} {v : YS}
    (hx : (zx = 1 ∧ numOk r q t ∧ ∃ k : Nat, j = (k : Int) ∧ k < 6 ∧ P.testBit k = true ∧ u = (P, updZ rel k r, updZ len k q, updZ tl k t, lf, tr, dn, ln, 0, ll, bo)) ∨ (zx = 0 ∧ ¬ (numOk r q t ∧ ∃ k : Nat, j = (k : Int) ∧ k < 6 ∧ P.testBit k = true) ∧ u = (P, rel, len, tl, lf, tr, dn, ln, kn, ll, bo)))
    (hy : (zy = 1 ∧ numOk r q t ∧ ∃ k : Nat, j = (k : Int) ∧ k < 6 ∧ P.testBit k = true ∧ v = (th, (updZ (updZ (updZ pt (3 * k) r) (3 * k + 1) q) (3 * k + 2) t), nn, od, li, st)) ∨ (zy = 0 ∧ ¬ (numOk r q t ∧ ∃ k : Nat, j = (k : Int) ∧ k < 6 ∧ P.testBit k = true) ∧ v = (th, pt, nn, od, li, st))) : zx = zy ∧ lawU u v := by
  rcases hx with ⟨a1, a0, k, a2, a3, a4, rfl⟩ | ⟨a1, a2, rfl⟩ <;> rcases hy with ⟨b1, b0, k', b2, b3, b4, rfl⟩ | ⟨b1, b2, rfl⟩
  · have e : k = k' := by omega
    subst e
    exact ⟨by omega, law_put H a3 a4 a0⟩
  · exact absurd ⟨a0, k, a2, a3, a4⟩ b2
  · exact absurd ⟨b0, k', b2, b3, b4⟩ a2
  · exact ⟨by omega, H⟩
theorem part_one {j t z z' : Int} (h : partIs P rel len tl j t z) (h' : partIs P rel len tl j t z') : z = z' := by
  rcases h with ⟨k, a1, a2, a3, a4⟩ | ⟨a1, a2⟩ <;> rcases h' with ⟨k', b1, b2, b3, b4⟩ | ⟨b1, b2⟩
  · have e : k = k' := by omega
    subst e
    omega
  · exact absurd ⟨k, a1, a2, a3, by omega⟩ b2
  · exact absurd ⟨k', b1, b2, b3, by omega⟩ a2
  · omega
theorem least_one (H : lawC P rel len tl kn ll bo th pt) {a b z z' : Int} (h : wMin rel len tl a b P 0 0 0 z) (h' : wMin rel len tl a b P 0 0 0 z') : z = z' := wMin_one (fun o ho => Int.le_of_lt (run_100000 (lawC_d H) H.1 (by omega) (by omega) o ho)) h h'
theorem best_one (H : lawC P rel len tl kn ll bo th pt) {v v' : Int} {o o' : List Nat} (h : wMin rel len tl (-1) (-1) P 0 0 0 v) (h' : wMin rel len tl (-1) (-1) P 0 0 0 v') (g : fst rel len tl v P 0 0 o) (g' : fst rel len tl v' P 0 0 o') : o = o' := by
  have e := least_one H h h'
  subst e
  exact fst_one o o' _ _ _ g g'
theorem bestAt_one (H : lawC P rel len tl kn ll bo th pt) {k z z' : Int} (h : (z = -1 ∧ ¬ (0 ≤ k ∧ k < cnt P)) ∨ ∃ i : Nat, k = (i : Int) ∧ i < cnt P ∧ ∃ v, wMin rel len tl (-1) (-1) P 0 0 0 v ∧ ∃ o, fst rel len tl v P 0 0 o ∧ z = ((o.getD i 0 : Nat) : Int)) (h' : (z' = -1 ∧ ¬ (0 ≤ k ∧ k < cnt P)) ∨ ∃ i : Nat, k = (i : Int) ∧ i < cnt P ∧ ∃ v, wMin rel len tl (-1) (-1) P 0 0 0 v ∧ ∃ o, fst rel len tl v P 0 0 o ∧ z' = ((o.getD i 0 : Nat) : Int)) : z = z' := by
  rcases h with ⟨a1, a2⟩ | ⟨i, a1, a2, v, a3, o, a4, a5⟩ <;> rcases h' with ⟨b1, b2⟩ | ⟨i', b1, b2, v', b3, o', b4, b5⟩
  · omega
  · omega
  · omega
  · have e : i = i' := by omega
    subst e
    have := best_one H a3 b3 a4 b4
    subst this
    omega
theorem begins_one (H : lawC P rel len tl kn ll bo th pt) {j z z' : Int} (h : (z = -1 ∧ ∀ k : Nat, j = (k : Int) → k < 6 → P.testBit k = false) ∨ ∃ k : Nat, j = (k : Int) ∧ k < 6 ∧ P.testBit k = true ∧ ∃ v, wMin rel len tl (-1) (-1) P 0 0 0 v ∧ ∃ o, fst rel len tl v P 0 0 o ∧ z = beg rel len 0 o k) (h' : (z' = -1 ∧ ∀ k : Nat, j = (k : Int) → k < 6 → P.testBit k = false) ∨ ∃ k : Nat, j = (k : Int) ∧ k < 6 ∧ P.testBit k = true ∧ ∃ v, wMin rel len tl (-1) (-1) P 0 0 0 v ∧ ∃ o, fst rel len tl v P 0 0 o ∧ z' = beg rel len 0 o k) : z = z' := by
  rcases h with ⟨a1, a2⟩ | ⟨k, a1, a2, a0, v, a3, o, a4, a5⟩ <;> rcases h' with ⟨b1, b2⟩ | ⟨k', b1, b2, b0, v', b3, o', b4, b5⟩
  · omega
  · have := a2 k' b1 b2
    rw [this] at b0
    cases b0
  · have := b2 k a1 a2
    rw [this] at a0
    cases a0
  · have e : k = k' := by omega
    subst e
    have := best_one H a3 b3 a4 b4
    subst this
    omega
theorem with_one (H : lawC P rel len tl kn ll bo th pt) {i j z z' : Int} (h : (z = -1 ∧ ¬ ∃ a b : Nat, i = (a : Int) ∧ j = (b : Int) ∧ a < 6 ∧ P.testBit a = true ∧ b < 6 ∧ P.testBit b = true ∧ a ≠ b) ∨ ∃ a b : Nat, i = (a : Int) ∧ j = (b : Int) ∧ a < 6 ∧ P.testBit a = true ∧ b < 6 ∧ P.testBit b = true ∧ a ≠ b ∧ wMin rel len tl a b P 0 0 0 z) (h' : (z' = -1 ∧ ¬ ∃ a b : Nat, i = (a : Int) ∧ j = (b : Int) ∧ a < 6 ∧ P.testBit a = true ∧ b < 6 ∧ P.testBit b = true ∧ a ≠ b) ∨ ∃ a b : Nat, i = (a : Int) ∧ j = (b : Int) ∧ a < 6 ∧ P.testBit a = true ∧ b < 6 ∧ P.testBit b = true ∧ a ≠ b ∧ wMin rel len tl a b P 0 0 0 z') : z = z' := by
  rcases h with ⟨a1, a2⟩ | ⟨a, b, a1, a2, a3, a4, a5, a6, a7, a8⟩ <;> rcases h' with ⟨b1, b2⟩ | ⟨a', b', b1, b2, b3, b4, b5, b6, b7, b8⟩
  · omega
  · exact absurd ⟨a', b', b1, b2, b3, b4, b5, b6, b7⟩ a2
  · exact absurd ⟨a, b, a1, a2, a3, a4, a5, a6, a7⟩ b2
  · have e1 : a = a' := by omega
    have e2 : b = b' := by omega
    subst e1; subst e2
    exact least_one H a8 b8
theorem first_one (H : lawC P rel len tl kn ll bo th pt) {j z z' : Int} (h : (z = -1 ∧ ∀ k : Nat, j = (k : Int) → k < 6 → P.testBit k = false) ∨ ∃ k : Nat, j = (k : Int) ∧ k < 6 ∧ P.testBit k = true ∧ wMin rel len tl (-1) (-1) (sd P (2 ^ k)) (2 ^ k) (nx rel len 0 k) (max 0 (nx rel len 0 k + tl k)) z) (h' : (z' = -1 ∧ ∀ k : Nat, j = (k : Int) → k < 6 → P.testBit k = false) ∨ ∃ k : Nat, j = (k : Int) ∧ k < 6 ∧ P.testBit k = true ∧ wMin rel len tl (-1) (-1) (sd P (2 ^ k)) (2 ^ k) (nx rel len 0 k) (max 0 (nx rel len 0 k + tl k)) z') : z = z' := by
  rcases h with ⟨a1, a2⟩ | ⟨k, a1, a2, a0, a3⟩ <;> rcases h' with ⟨b1, b2⟩ | ⟨k', b1, b2, b0, b3⟩
  · omega
  · have := a2 k' b1 b2
    rw [this] at b0
    cases b0
  · have := b2 k a1 a2
    rw [this] at a0
    cases a0
  · have e : k = k' := by omega
    subst e
    have hk := H.2.1 k a2
    have hn : nx rel len 0 k ≤ 100 := by unfold nx; omega
    exact wMin_one (fun o ho => Int.le_of_lt (run_100000 (lawC_d H) (sd_lt _ H.1) (by omega) (by omega) o ho)) a3 b3
theorem great_one {j z z' : Int} {Q : Nat → Int → Prop} (h : (z = -1 ∧ ∀ k : Nat, j = (k : Int) → k < 6 → P.testBit k = false) ∨ ∃ k : Nat, j = (k : Int) ∧ k < 6 ∧ P.testBit k = true ∧ gIs (Q k) z) (h' : (z' = -1 ∧ ∀ k : Nat, j = (k : Int) → k < 6 → P.testBit k = false) ∨ ∃ k : Nat, j = (k : Int) ∧ k < 6 ∧ P.testBit k = true ∧ gIs (Q k) z') : z = z' := by
  rcases h with ⟨a1, a2⟩ | ⟨k, a1, a2, a0, a3⟩ <;> rcases h' with ⟨b1, b2⟩ | ⟨k', b1, b2, b0, b3⟩
  · omega
  · have := a2 k' b1 b2
    rw [this] at b0
    cases b0
  · have := b2 k a1 a2
    rw [this] at a0
    cases a0
  · have e : k = k' := by omega
    subst e
    exact gIs_one a3 b3
end LAWS
end
section
/-! the law: the two objects side by side -/
set_option maxRecDepth 100000
/-- the cells of the two are apart -/
def lDis (hx hy : Nat → Nat) : Prop := ∀ i j, i < 9 → j < 5 → hx i ≠ hy j
theorem xw_at {h : Nat → Nat} {g : Nat → ClassId} {u : XS} {k q : Nat} {e : va_E} (hk : (xwu h g u)[k]? = some (q, e)) : ∃ i, i < 9 ∧ q = h i := by
  have h1 : q ∈ (xwu h g u).map (fun z => z.1) := List.mem_map.mpr ⟨(q, e), List.mem_of_getElem? hk, rfl⟩
  have h2 : (xwu h g u).map (fun z => z.1) = [h 0, h 1, h 2, h 3, h 4, h 5, h 6, h 7, h 8] := rfl
  rw [h2] at h1
  simp only [List.mem_cons, List.not_mem_nil, or_false] at h1
  rcases h1 with e | e | e | e | e | e | e | e | e
  · exact ⟨0, by omega, e⟩
  · exact ⟨1, by omega, e⟩
  · exact ⟨2, by omega, e⟩
  · exact ⟨3, by omega, e⟩
  · exact ⟨4, by omega, e⟩
  · exact ⟨5, by omega, e⟩
  · exact ⟨6, by omega, e⟩
  · exact ⟨7, by omega, e⟩
  · exact ⟨8, by omega, e⟩
theorem yw_at {h : Nat → Nat} {g : Nat → ClassId} {u : YS} {k q : Nat} {e : va_E} (hk : (ywu h g u)[k]? = some (q, e)) : ∃ i, i < 5 ∧ q = h i := by
  have h1 : q ∈ (ywu h g u).map (fun z => z.1) := List.mem_map.mpr ⟨(q, e), List.mem_of_getElem? hk, rfl⟩
  have h2 : (ywu h g u).map (fun z => z.1) = [h 0, h 1, h 2, h 3, h 4] := rfl
  rw [h2] at h1
  simp only [List.mem_cons, List.not_mem_nil, or_false] at h1
  rcases h1 with e | e | e | e | e
  · exact ⟨0, by omega, e⟩
  · exact ⟨1, by omega, e⟩
  · exact ⟨2, by omega, e⟩
  · exact ⟨3, by omega, e⟩
  · exact ⟨4, by omega, e⟩
theorem xy_l (hx hy : Nat → Nat) (gx gy : Nat → ClassId) (u : XS) (v : YS) {i : Nat} (hi : i < 9) : ∃ e, (xwu hx gx u ++ ywu hy gy v)[i]? = some (hx i, e) := by
  rcases (show i = 0 ∨ i = 1 ∨ i = 2 ∨ i = 3 ∨ i = 4 ∨ i = 5 ∨ i = 6 ∨ i = 7 ∨ i = 8 by omega) with rfl | rfl | rfl | rfl | rfl | rfl | rfl | rfl | rfl <;> exact ⟨_, rfl⟩
theorem xy_r (hx hy : Nat → Nat) (gx gy : Nat → ClassId) (u : XS) (v : YS) {j : Nat} (hj : j < 5) : ∃ e, (xwu hx gx u ++ ywu hy gy v)[9 + j]? = some (hy j, e) := by
  rcases (show j = 0 ∨ j = 1 ∨ j = 2 ∨ j = 3 ∨ j = 4 by omega) with rfl | rfl | rfl | rfl | rfl <;> exact ⟨_, rfl⟩
theorem lDis_of {A : Nat → Prop} {hx hy : Nat → Nat} {gx gy : Nat → ClassId} {u : XS} {v : YS} (hD : va_D A (xwu hx gx u ++ ywu hy gy v)) : lDis hx hy := by
  intro i j hi hj e
  obtain ⟨e1, h1⟩ := xy_l hx hy gx gy u v hi
  obtain ⟨e2, h2⟩ := xy_r hx hy gx gy u v hj
  have := hD.1 i (9 + j) _ _ h1 h2 e
  omega
theorem l_notx {hx hy : Nat → Nat} {gx gy : Nat → ClassId} {u : XS} {v : YS} (hdis : lDis hx hy) {k sz : Nat} {x : Nat × va_E} (hk : (ywu hy gy v)[k]? = some x) (hlt : x.1 < sz) : ¬ va_A (xwu hx gx u) sz x.1 := by
  rintro (⟨k', e, h⟩ | h)
  · obtain ⟨i, hi, e1⟩ := xw_at h
    obtain ⟨j, hj, e2⟩ := yw_at (q := x.1) (e := x.2) hk
    exact hdis i j hi hj (e1.symm.trans e2)
  · omega
theorem l_noty {hx hy : Nat → Nat} {gx gy : Nat → ClassId} {u : XS} {v : YS} (hdis : lDis hx hy) {k sz : Nat} {x : Nat × va_E} (hk : (xwu hx gx u)[k]? = some x) (hlt : x.1 < sz) : ¬ va_A (ywu hy gy v) sz x.1 := by
  rintro (⟨k', e, h⟩ | h)
  · obtain ⟨j, hj, e1⟩ := yw_at h
    obtain ⟨i, hi, e2⟩ := xw_at (q := x.1) (e := x.2) hk
    exact hdis i j hi hj (e2.symm.trans e1)
  · omega
section LAWROWS
variable {p : Program} {l : Launch} {e : Env} {R : Room} {s : State} {m : MethodId} {args : Array Value} {below : List Frame} {meth : Method} {c : Code} {H : Heap} {locs : List Loc} {cells slots : Nat} {Q : State → Prop}
variable {cc : ByteArray} {pc nL : Nat} {ls : Array Slot} {own : String} {D : va_G} {hx hy : Nat → Nat} {gx gy : Nat → ClassId} {A : Nat → Prop} {H0 : Heap}
variable {y : MethodName} {cd : ByteArray} {L fr lo n idx : Nat} {ret : Option FieldType} {as st : List Value} {u0 : XS} {v0 : YS} {S : Type}
theorem lxcalli {f : S → XS} {post : Int → S → Prop} (rest : List Value) (S' : CallFix p m c cc nL s args lw_all own) (hdis : lDis hx hy) (w : xAu D hx gx A s H0 u0 H locs) (w2 : yAu D hy gy A s H0 v0 H locs) (F : xF own idx y cd L ret n) (hM : CXi l y cd L ret fr lo as u0 post f) (hn : as.length = n) (hR : fr + 1 ≤ R.frames ∧ 8 + (L + 11) + lo ≤ R.locals) (hsz : ls.size = nL) (hcat : (rest.map fun v => v.category).sum ≤ 8) (hst : st = as.reverse ++ .ref (hx 0) :: rest) (hc : cells ≤ R.cells ∧ slots ≤ R.slots) (hd : decode cc pc = .ok (.invokevirtual idx, 3)) (k : ∀ (z : Int) (u : S) (H1 : Heap) (locs1 : List Loc), post z u → xAu D hx gx A s H0 (f u) H1 locs1 → yAu D hy gy A s H0 v0 H1 locs1 → W p l e R s m args below meth c H1 locs1 cells slots Q (F0 m (pc + 3) ls (.int (iI z) :: rest))) : W p l e R s m args below meth c H locs cells slots Q (F0 m pc ls st) := by
  subst hst
  obtain ⟨hK, hP, hD, hS, hA⟩ := w
  have hFc : ∀ q, va_A (xwu hx gx u0) H.size q → A q := va_free (wc := xwu hx gx u0) hD hS hA [0, 1, 2, 3, 4, 5, 6, 7, 8] rfl
  refine va_calli (va_runV (As := as) (rest := rest) S' (hM D hx gx H.size) (cwV n S'.2.2.2.2 (lw_V F.1 F.2.1 F.2.2.1 q26 F.2.2.2.1) rfl rfl rfl F.2.2.2.2 hR) ⟨fun a U g mk q => by obtain ⟨q0, q1, qP, qK, qD⟩ := q; exact ⟨q0, q1, qP, va_K.moved (u := U) (U := U.calling g mk a) (Vm.Alike.refl U.vm) qK, qD⟩, va_recv hK hP (ci := 0) (q0 := 0) rfl rfl, fun U hU hW => ⟨rfl, by rw [hU], by rw [hU]; exact hP, va_K.moved hW.alike hK, hD.weaken (fun _ _ _ _ => trivial)⟩⟩ rfl hn hsz rfl (lv_room hcat) hd hc) hS (fun q _ h => hFc q h) hFc (fun r u t H1 locs1 ht hvm hp hB hz hk1 hS1 => ?_)
  obtain ⟨z, rfl, hp⟩ := hp
  obtain ⟨hP1, hK1, hD1⟩ := hB
  rw [ht] at hP1
  obtain ⟨oK, oP, oD, oS, oA⟩ := w2
  exact k z u H1 locs1 hp ⟨va_K.moved hvm.symm hK1, hP1, hD1.weaken (fun k q _ h => hFc q.1 h), hS1, hA⟩ ⟨oK, oP.kept (fun k x hq => hk1 x.1 ((oP k x hq).lt) (l_notx hdis hq (oP k x hq).lt)), oD, hS1, oA⟩
theorem lycalli {f : S → YS} {post : Int → S → Prop} (rest : List Value) (S' : CallFix p m c cc nL s args lw_all own) (hdis : lDis hx hy) (w : yAu D hy gy A s H0 v0 H locs) (w2 : xAu D hx gx A s H0 u0 H locs) (F : yF own idx y cd L ret n) (hM : CYi l y cd L ret fr lo as v0 post f) (hn : as.length = n) (hR : fr + 1 ≤ R.frames ∧ 8 + (L + 11) + lo ≤ R.locals) (hsz : ls.size = nL) (hcat : (rest.map fun v => v.category).sum ≤ 8) (hst : st = as.reverse ++ .ref (hy 0) :: rest) (hc : cells ≤ R.cells ∧ slots ≤ R.slots) (hd : decode cc pc = .ok (.invokevirtual idx, 3)) (k : ∀ (z : Int) (u : S) (H1 : Heap) (locs1 : List Loc), post z u → yAu D hy gy A s H0 (f u) H1 locs1 → xAu D hx gx A s H0 u0 H1 locs1 → W p l e R s m args below meth c H1 locs1 cells slots Q (F0 m (pc + 3) ls (.int (iI z) :: rest))) : W p l e R s m args below meth c H locs cells slots Q (F0 m pc ls st) := by
  subst hst
  obtain ⟨hK, hP, hD, hS, hA⟩ := w
  have hFc : ∀ q, va_A (ywu hy gy v0) H.size q → A q := va_free (wc := ywu hy gy v0) hD hS hA [0, 1, 2, 3, 4] rfl
  refine va_calli (va_runV (As := as) (rest := rest) S' (hM D hy gy H.size) (cwV n S'.2.2.2.2 (lw_V F.1 F.2.1 F.2.2.1 q27 F.2.2.2.1) rfl rfl rfl F.2.2.2.2 hR) ⟨fun a U g mk q => by obtain ⟨q0, q1, qP, qK, qD⟩ := q; exact ⟨q0, q1, qP, va_K.moved (u := U) (U := U.calling g mk a) (Vm.Alike.refl U.vm) qK, qD⟩, va_recv hK hP (ci := 1) (q0 := 0) rfl rfl, fun U hU hW => ⟨rfl, by rw [hU], by rw [hU]; exact hP, va_K.moved hW.alike hK, hD.weaken (fun _ _ _ _ => trivial)⟩⟩ rfl hn hsz rfl (lv_room hcat) hd hc) hS (fun q _ h => hFc q h) hFc (fun r u t H1 locs1 ht hvm hp hB hz hk1 hS1 => ?_)
  obtain ⟨z, rfl, hp⟩ := hp
  obtain ⟨hP1, hK1, hD1⟩ := hB
  rw [ht] at hP1
  obtain ⟨oK, oP, oD, oS, oA⟩ := w2
  exact k z u H1 locs1 hp ⟨va_K.moved hvm.symm hK1, hP1, hD1.weaken (fun k q _ h => hFc q.1 h), hS1, hA⟩ ⟨oK, oP.kept (fun k x hq => hk1 x.1 ((oP k x hq).lt) (l_noty hdis hq (oP k x hq).lt)), oD, hS1, oA⟩
/-- the script's place i + k -/
theorem lw_arg {rest : List Value} (S' : CallFix p m c cc nL s args lw_all own) {b Ls : Nat} {xs : Nat → Int32} (hX : va_X b Ls xs s H0) (hbl : b < H0.size) (hbA : ¬ A b) (hS : va_S A H0 H locs) (i k : Nat) {kz : Int} (hkz : kz = (k : Int)) {q1 q2 : Nat} (hl : lv_has ls nL [(3, .int (iI (i : Int))), (2, .ref q2), (1, .ref q1), (0, .ref b)]) (hk : i + k < Ls) (hLs : Ls ≤ 320) (d1 : decode cc pc = .ok (.aload_n 0, 1)) (d2 : decode cc (pc + 1) = .ok (.iload_n 3, 1)) (d3 : decode cc (pc + 1 + 1) = .ok (.iconst kz, 1)) (d4 : decode cc (pc + 1 + 1 + 1) = .ok (.iadd, 1)) (d5 : decode cc (pc + 1 + 1 + 1 + 1) = .ok (.iaload, 1)) (kk : W p l e R s m args below meth c H locs cells slots Q (F0 m (pc + 1 + 1 + 1 + 1 + 1) ls (.int (iI (xs (i + k)).toInt) :: rest))) : W p l e R s m args below meth c H locs cells slots Q (F0 m pc ls rest) := by
  subst hkz
  refine lv_aload_n S'.1 S'.2.1 d1 rfl (lv_at hl 3 rfl) ?_
  refine lv_iload_n S'.1 S'.2.1 d2 rfl (lv_at hl 0 rfl) ?_
  refine zi_iconst S' d3 ?_
  refine zi_iadd S' d4 ?_
  refine W_is ((i + k : Nat) : Int) (by omega) ?_
  refine va_sld S'.1 S'.2.1 hX hbl hbA hS (iI_in hk (by omega)) d5 ?_
  rw [iI_cl (by omega), iI_of (xs (i + k))]
  exact kk
end LAWROWS
/-- the last four bits of a number -/
theorem low4 (x : Int32) : ∃ n : Nat, n < 16 ∧ x &&& iI 15 = iI (n : Int) := by
  refine ⟨x.toBitVec.toNat &&& 15, Nat.lt_of_le_of_lt Nat.and_le_right (by decide), ?_⟩
  have e : x = iI (x.toBitVec.toNat : Int) := by
    rw [iI_nI]
    apply Int32.toBitVec_inj.1
    show x.toBitVec = BitVec.ofNat 32 x.toBitVec.toNat
    simp
  have h := iI_and x.toBitVec.toNat 15
  rw [← e] at h
  exact h
end
section
/-! the law's cases -/
set_option maxRecDepth 100000
/-- the two objects hold what agrees -/
def lI (D : va_G) (hx hy : Nat → Nat) (gx gy : Nat → ClassId) (A : Nat → Prop) (s : State) (H : Heap) (locs : List Loc) : Prop := ∃ (u : XS) (v : YS), lawU u v ∧ xAu D hx gx A s s.heap u H locs ∧ yAu D hy gy A s s.heap v H locs
set_option maxHeartbeats 4000000 in
/-- case 0: add -/
theorem law_c0 {p : Program} (l : Launch) {e : Env} {s : State} {m : MethodId} {args : Array Value} {below : List Frame} {meth : Method} {c : Code} {H : Heap} {locs : List Loc} {cells slots : Nat} {Q : State → Prop} {ls : Array Slot} {D : va_G} {hx hy : Nat → Nat} {gx gy : Nat → ClassId} {A : Nat → Prop} (S' : CallFix p m c cL_law 4 s args lw_all "HeadTailLaw") (hdis : lDis hx hy) {b Ls : Nat} {xs : Nat → Int32} (hX : va_X b Ls xs s s.heap) (hbl : b < s.heap.size) (hbA : ¬ A b) (i : Nat) (hi : i + 5 ≤ Ls) (hLs : Ls ≤ 320) (hl : lv_has ls 4 [(3, .int (iI (i : Int))), (2, .ref (hy 0)), (1, .ref (hx 0)), (0, .ref b)]) (hI : lI D hx hy gx gy A s H locs) (hcs : cells ≤ 600000 ∧ slots ≤ 7290000) (K : ∀ H1 locs1, lI D hx hy gx gy A s H1 locs1 → W p l e room_1 s m args below meth c H1 locs1 cells slots Q (F0 m 459 ls [])) : W p l e room_1 s m args below meth c H locs cells slots Q (F0 m 100 ls []) := by
  obtain ⟨⟨P, rel, len, tl, lf, tr, dn, ln, kn, ll, bo⟩, ⟨th, pt, nn, od, li, st⟩, hC, wx, wy⟩ := hI
  have hC : lawC P rel len tl kn ll bo th pt := hC
  have wx : xA D hx gx A s s.heap P rel len tl lf tr dn ln kn ll bo H locs := wx
  have wy : yA D hy gy A s s.heap th pt nn od li st H locs := wy
  refine lv_aload_n S'.1 S'.2.1 dL_law_100 rfl (lv_at hl 2 rfl) ?_
  refine lw_arg S' hX hbl hbA wx.2.2.2.1 i 1 rfl hl (by omega) hLs dL_law_101 dL_law_102 dL_law_103 dL_law_104 dL_law_105 ?_
  refine lw_arg S' hX hbl hbA wx.2.2.2.1 i 2 rfl hl (by omega) hLs dL_law_106 dL_law_107 dL_law_108 dL_law_109 dL_law_110 ?_
  refine lw_arg S' hX hbl hbA wx.2.2.2.1 i 3 rfl hl (by omega) hLs dL_law_111 dL_law_112 dL_law_113 dL_law_114 dL_law_115 ?_
  refine lxcalli (v0 := (th, pt, nn, od, li, st)) [] S' hdis wx wy fX_add_L (mX_add l P rel len tl lf tr dn ln kn ll bo hC.1 (xs (i + 1)).toInt (xs (i + 2)).toInt (xs (i + 3)).toInt (iI_rng _) (iI_rng _) (iI_rng _)) rfl ⟨Nat.le_of_ble_eq_true rfl, Nat.le_of_ble_eq_true rfl⟩ hl.1 (Nat.le_of_ble_eq_true rfl) rfl hcs dL_law_116 (fun z u H locs hp wx wy => ?_)
  refine lv_aload_n S'.1 S'.2.1 dL_law_119 rfl (lv_at hl 1 rfl) ?_
  refine lw_arg S' hX hbl hbA wx.2.2.2.1 i 1 rfl hl (by omega) hLs dL_law_120 dL_law_121 dL_law_122 dL_law_123 dL_law_124 ?_
  refine lw_arg S' hX hbl hbA wx.2.2.2.1 i 2 rfl hl (by omega) hLs dL_law_125 dL_law_126 dL_law_127 dL_law_128 dL_law_129 ?_
  refine lw_arg S' hX hbl hbA wx.2.2.2.1 i 3 rfl hl (by omega) hLs dL_law_130 dL_law_131 dL_law_132 dL_law_133 dL_law_134 ?_
  refine lycalli (u0 := u) [.int (iI z)] S' hdis wy wx fY_add_L (mY_add l th pt nn od li st P rel len tl hC.2.2.2.2 (xs (i + 1)).toInt (xs (i + 2)).toInt (xs (i + 3)).toInt (iI_rng _) (iI_rng _) (iI_rng _)) rfl ⟨Nat.le_of_ble_eq_true rfl, Nat.le_of_ble_eq_true rfl⟩ hl.1 (Nat.le_of_ble_eq_true rfl) rfl hcs dL_law_135 (fun z2 v H locs hp2 wy wx => ?_)
  obtain ⟨he, hC2⟩ := law_add hC hp hp2
  subst he
  exact lv_icmp_eq (tgt := 459) S'.1 S'.2.1 dL_law_138 (by decide) (fun _ => K _ _ ⟨u, v, hC2, wx, wy⟩) (fun q => absurd rfl q)
set_option maxHeartbeats 4000000 in
/-- case 1: remove -/
theorem law_c1 {p : Program} (l : Launch) {e : Env} {s : State} {m : MethodId} {args : Array Value} {below : List Frame} {meth : Method} {c : Code} {H : Heap} {locs : List Loc} {cells slots : Nat} {Q : State → Prop} {ls : Array Slot} {D : va_G} {hx hy : Nat → Nat} {gx gy : Nat → ClassId} {A : Nat → Prop} (S' : CallFix p m c cL_law 4 s args lw_all "HeadTailLaw") (hdis : lDis hx hy) {b Ls : Nat} {xs : Nat → Int32} (hX : va_X b Ls xs s s.heap) (hbl : b < s.heap.size) (hbA : ¬ A b) (i : Nat) (hi : i + 5 ≤ Ls) (hLs : Ls ≤ 320) (hl : lv_has ls 4 [(3, .int (iI (i : Int))), (2, .ref (hy 0)), (1, .ref (hx 0)), (0, .ref b)]) (hI : lI D hx hy gx gy A s H locs) (hcs : cells ≤ 600000 ∧ slots ≤ 7290000) (K : ∀ H1 locs1, lI D hx hy gx gy A s H1 locs1 → W p l e room_1 s m args below meth c H1 locs1 cells slots Q (F0 m 459 ls [])) : W p l e room_1 s m args below meth c H locs cells slots Q (F0 m 143 ls []) := by
  obtain ⟨⟨P, rel, len, tl, lf, tr, dn, ln, kn, ll, bo⟩, ⟨th, pt, nn, od, li, st⟩, hC, wx, wy⟩ := hI
  have hC : lawC P rel len tl kn ll bo th pt := hC
  have wx : xA D hx gx A s s.heap P rel len tl lf tr dn ln kn ll bo H locs := wx
  have wy : yA D hy gy A s s.heap th pt nn od li st H locs := wy
  refine lv_aload_n S'.1 S'.2.1 dL_law_143 rfl (lv_at hl 2 rfl) ?_
  refine lw_arg S' hX hbl hbA wx.2.2.2.1 i 1 rfl hl (by omega) hLs dL_law_144 dL_law_145 dL_law_146 dL_law_147 dL_law_148 ?_
  refine lxcalli (v0 := (th, pt, nn, od, li, st)) [] S' hdis wx wy fX_remove_L (mX_remove l P rel len tl lf tr dn ln kn ll bo hC.1 (xs (i + 1)).toInt (iI_rng _)) rfl ⟨Nat.le_of_ble_eq_true rfl, Nat.le_of_ble_eq_true rfl⟩ hl.1 (Nat.le_of_ble_eq_true rfl) rfl hcs dL_law_149 (fun z u H locs hp wx wy => ?_)
  refine lv_aload_n S'.1 S'.2.1 dL_law_152 rfl (lv_at hl 1 rfl) ?_
  refine lw_arg S' hX hbl hbA wx.2.2.2.1 i 1 rfl hl (by omega) hLs dL_law_153 dL_law_154 dL_law_155 dL_law_156 dL_law_157 ?_
  refine lycalli (u0 := u) [.int (iI z)] S' hdis wy wx fY_remove_L (mY_remove l th pt nn od li st P rel len tl hC.2.2.2.2 (xs (i + 1)).toInt (iI_rng _)) rfl ⟨Nat.le_of_ble_eq_true rfl, Nat.le_of_ble_eq_true rfl⟩ hl.1 (Nat.le_of_ble_eq_true rfl) rfl hcs dL_law_158 (fun z2 v H locs hp2 wy wx => ?_)
  obtain ⟨he, hC2⟩ := law_remove hC hp hp2
  subst he
  exact lv_icmp_eq (tgt := 459) S'.1 S'.2.1 dL_law_161 (by decide) (fun _ => K _ _ ⟨u, v, hC2, wx, wy⟩) (fun q => absurd rfl q)
set_option maxHeartbeats 4000000 in
/-- case 2: change -/
theorem law_c2 {p : Program} (l : Launch) {e : Env} {s : State} {m : MethodId} {args : Array Value} {below : List Frame} {meth : Method} {c : Code} {H : Heap} {locs : List Loc} {cells slots : Nat} {Q : State → Prop} {ls : Array Slot} {D : va_G} {hx hy : Nat → Nat} {gx gy : Nat → ClassId} {A : Nat → Prop} (S' : CallFix p m c cL_law 4 s args lw_all "HeadTailLaw") (hdis : lDis hx hy) {b Ls : Nat} {xs : Nat → Int32} (hX : va_X b Ls xs s s.heap) (hbl : b < s.heap.size) (hbA : ¬ A b) (i : Nat) (hi : i + 5 ≤ Ls) (hLs : Ls ≤ 320) (hl : lv_has ls 4 [(3, .int (iI (i : Int))), (2, .ref (hy 0)), (1, .ref (hx 0)), (0, .ref b)]) (hI : lI D hx hy gx gy A s H locs) (hcs : cells ≤ 600000 ∧ slots ≤ 7290000) (K : ∀ H1 locs1, lI D hx hy gx gy A s H1 locs1 → W p l e room_1 s m args below meth c H1 locs1 cells slots Q (F0 m 459 ls [])) : W p l e room_1 s m args below meth c H locs cells slots Q (F0 m 166 ls []) := by
  obtain ⟨⟨P, rel, len, tl, lf, tr, dn, ln, kn, ll, bo⟩, ⟨th, pt, nn, od, li, st⟩, hC, wx, wy⟩ := hI
  have hC : lawC P rel len tl kn ll bo th pt := hC
  have wx : xA D hx gx A s s.heap P rel len tl lf tr dn ln kn ll bo H locs := wx
  have wy : yA D hy gy A s s.heap th pt nn od li st H locs := wy
  refine lv_aload_n S'.1 S'.2.1 dL_law_166 rfl (lv_at hl 2 rfl) ?_
  refine lw_arg S' hX hbl hbA wx.2.2.2.1 i 1 rfl hl (by omega) hLs dL_law_167 dL_law_168 dL_law_169 dL_law_170 dL_law_171 ?_
  refine lw_arg S' hX hbl hbA wx.2.2.2.1 i 2 rfl hl (by omega) hLs dL_law_172 dL_law_173 dL_law_174 dL_law_175 dL_law_176 ?_
  refine lw_arg S' hX hbl hbA wx.2.2.2.1 i 3 rfl hl (by omega) hLs dL_law_177 dL_law_178 dL_law_179 dL_law_180 dL_law_181 ?_
  refine lw_arg S' hX hbl hbA wx.2.2.2.1 i 4 rfl hl (by omega) hLs dL_law_182 dL_law_183 dL_law_184 dL_law_185 dL_law_186 ?_
  refine lxcalli (v0 := (th, pt, nn, od, li, st)) [] S' hdis wx wy fX_change_L (mX_change l P rel len tl lf tr dn ln kn ll bo hC.1 (xs (i + 1)).toInt (xs (i + 2)).toInt (xs (i + 3)).toInt (xs (i + 4)).toInt (iI_rng _) (iI_rng _) (iI_rng _) (iI_rng _)) rfl ⟨Nat.le_of_ble_eq_true rfl, Nat.le_of_ble_eq_true rfl⟩ hl.1 (Nat.le_of_ble_eq_true rfl) rfl hcs dL_law_187 (fun z u H locs hp wx wy => ?_)
  refine lv_aload_n S'.1 S'.2.1 dL_law_190 rfl (lv_at hl 1 rfl) ?_
  refine lw_arg S' hX hbl hbA wx.2.2.2.1 i 1 rfl hl (by omega) hLs dL_law_191 dL_law_192 dL_law_193 dL_law_194 dL_law_195 ?_
  refine lw_arg S' hX hbl hbA wx.2.2.2.1 i 2 rfl hl (by omega) hLs dL_law_196 dL_law_197 dL_law_198 dL_law_199 dL_law_200 ?_
  refine lw_arg S' hX hbl hbA wx.2.2.2.1 i 3 rfl hl (by omega) hLs dL_law_201 dL_law_202 dL_law_203 dL_law_204 dL_law_205 ?_
  refine lw_arg S' hX hbl hbA wx.2.2.2.1 i 4 rfl hl (by omega) hLs dL_law_206 dL_law_207 dL_law_208 dL_law_209 dL_law_210 ?_
  refine lycalli (u0 := u) [.int (iI z)] S' hdis wy wx fY_change_L (mY_change l th pt nn od li st P rel len tl hC.2.2.2.2 (xs (i + 1)).toInt (xs (i + 2)).toInt (xs (i + 3)).toInt (xs (i + 4)).toInt (iI_rng _) (iI_rng _) (iI_rng _) (iI_rng _)) rfl ⟨Nat.le_of_ble_eq_true rfl, Nat.le_of_ble_eq_true rfl⟩ hl.1 (Nat.le_of_ble_eq_true rfl) rfl hcs dL_law_211 (fun z2 v H locs hp2 wy wx => ?_)
  obtain ⟨he, hC2⟩ := law_change hC hp hp2
  subst he
  exact lv_icmp_eq (tgt := 459) S'.1 S'.2.1 dL_law_214 (by decide) (fun _ => K _ _ ⟨u, v, hC2, wx, wy⟩) (fun q => absurd rfl q)
set_option maxHeartbeats 4000000 in
/-- case 3: jobs -/
theorem law_c3 {p : Program} (l : Launch) {e : Env} {s : State} {m : MethodId} {args : Array Value} {below : List Frame} {meth : Method} {c : Code} {H : Heap} {locs : List Loc} {cells slots : Nat} {Q : State → Prop} {ls : Array Slot} {D : va_G} {hx hy : Nat → Nat} {gx gy : Nat → ClassId} {A : Nat → Prop} (S' : CallFix p m c cL_law 4 s args lw_all "HeadTailLaw") (hdis : lDis hx hy) {b Ls : Nat} {xs : Nat → Int32} (hX : va_X b Ls xs s s.heap) (hbl : b < s.heap.size) (hbA : ¬ A b) (i : Nat) (hi : i + 5 ≤ Ls) (hLs : Ls ≤ 320) (hl : lv_has ls 4 [(3, .int (iI (i : Int))), (2, .ref (hy 0)), (1, .ref (hx 0)), (0, .ref b)]) (hI : lI D hx hy gx gy A s H locs) (hcs : cells ≤ 600000 ∧ slots ≤ 7290000) (K : ∀ H1 locs1, lI D hx hy gx gy A s H1 locs1 → W p l e room_1 s m args below meth c H1 locs1 cells slots Q (F0 m 459 ls [])) : W p l e room_1 s m args below meth c H locs cells slots Q (F0 m 219 ls []) := by
  obtain ⟨⟨P, rel, len, tl, lf, tr, dn, ln, kn, ll, bo⟩, ⟨th, pt, nn, od, li, st⟩, hC, wx, wy⟩ := hI
  have hC : lawC P rel len tl kn ll bo th pt := hC
  have wx : xA D hx gx A s s.heap P rel len tl lf tr dn ln kn ll bo H locs := wx
  have wy : yA D hy gy A s s.heap th pt nn od li st H locs := wy
  refine lv_aload_n S'.1 S'.2.1 dL_law_219 rfl (lv_at hl 2 rfl) ?_
  refine lxcalli (v0 := (th, pt, nn, od, li, st)) [] S' hdis wx wy fX_jobs_L (mX_jobs l P rel len tl lf tr dn ln kn ll bo  ) rfl ⟨Nat.le_of_ble_eq_true rfl, Nat.le_of_ble_eq_true rfl⟩ hl.1 (Nat.le_of_ble_eq_true rfl) rfl hcs dL_law_220 (fun z u H locs hp wx wy => ?_)
  refine lv_aload_n S'.1 S'.2.1 dL_law_223 rfl (lv_at hl 1 rfl) ?_
  refine lycalli (u0 := (P, rel, len, tl, lf, tr, dn, ln, kn, ll, bo)) [.int (iI z)] S' hdis wy wx fY_jobs_L (mY_jobs l th pt nn od li st P rel len tl hC.2.2.2.2 ) rfl ⟨Nat.le_of_ble_eq_true rfl, Nat.le_of_ble_eq_true rfl⟩ hl.1 (Nat.le_of_ble_eq_true rfl) rfl hcs dL_law_224 (fun z2 v H locs hp2 wy wx => ?_)
  have he : z = z2 := hp.trans hp2.symm
  subst he
  exact lv_icmp_eq (tgt := 459) S'.1 S'.2.1 dL_law_227 (by decide) (fun _ => K _ _ ⟨(P, rel, len, tl, lf, tr, dn, ln, kn, ll, bo), (th, pt, nn, od, li, st), hC, wx, wy⟩) (fun q => absurd rfl q)
set_option maxHeartbeats 4000000 in
/-- case 4: part -/
theorem law_c4 {p : Program} (l : Launch) {e : Env} {s : State} {m : MethodId} {args : Array Value} {below : List Frame} {meth : Method} {c : Code} {H : Heap} {locs : List Loc} {cells slots : Nat} {Q : State → Prop} {ls : Array Slot} {D : va_G} {hx hy : Nat → Nat} {gx gy : Nat → ClassId} {A : Nat → Prop} (S' : CallFix p m c cL_law 4 s args lw_all "HeadTailLaw") (hdis : lDis hx hy) {b Ls : Nat} {xs : Nat → Int32} (hX : va_X b Ls xs s s.heap) (hbl : b < s.heap.size) (hbA : ¬ A b) (i : Nat) (hi : i + 5 ≤ Ls) (hLs : Ls ≤ 320) (hl : lv_has ls 4 [(3, .int (iI (i : Int))), (2, .ref (hy 0)), (1, .ref (hx 0)), (0, .ref b)]) (hI : lI D hx hy gx gy A s H locs) (hcs : cells ≤ 600000 ∧ slots ≤ 7290000) (K : ∀ H1 locs1, lI D hx hy gx gy A s H1 locs1 → W p l e room_1 s m args below meth c H1 locs1 cells slots Q (F0 m 459 ls [])) : W p l e room_1 s m args below meth c H locs cells slots Q (F0 m 232 ls []) := by
  obtain ⟨⟨P, rel, len, tl, lf, tr, dn, ln, kn, ll, bo⟩, ⟨th, pt, nn, od, li, st⟩, hC, wx, wy⟩ := hI
  have hC : lawC P rel len tl kn ll bo th pt := hC
  have wx : xA D hx gx A s s.heap P rel len tl lf tr dn ln kn ll bo H locs := wx
  have wy : yA D hy gy A s s.heap th pt nn od li st H locs := wy
  refine lv_aload_n S'.1 S'.2.1 dL_law_232 rfl (lv_at hl 2 rfl) ?_
  refine lw_arg S' hX hbl hbA wx.2.2.2.1 i 1 rfl hl (by omega) hLs dL_law_233 dL_law_234 dL_law_235 dL_law_236 dL_law_237 ?_
  refine lw_arg S' hX hbl hbA wx.2.2.2.1 i 2 rfl hl (by omega) hLs dL_law_238 dL_law_239 dL_law_240 dL_law_241 dL_law_242 ?_
  refine lxcalli (v0 := (th, pt, nn, od, li, st)) [] S' hdis wx wy fX_part_L (mX_part l P rel len tl lf tr dn ln kn ll bo hC.1 (lawC_d hC) (xs (i + 1)).toInt (xs (i + 2)).toInt (iI_rng _) (iI_rng _)) rfl ⟨Nat.le_of_ble_eq_true rfl, Nat.le_of_ble_eq_true rfl⟩ hl.1 (Nat.le_of_ble_eq_true rfl) rfl hcs dL_law_243 (fun z u H locs hp wx wy => ?_)
  refine lv_aload_n S'.1 S'.2.1 dL_law_246 rfl (lv_at hl 1 rfl) ?_
  refine lw_arg S' hX hbl hbA wx.2.2.2.1 i 1 rfl hl (by omega) hLs dL_law_247 dL_law_248 dL_law_249 dL_law_250 dL_law_251 ?_
  refine lw_arg S' hX hbl hbA wx.2.2.2.1 i 2 rfl hl (by omega) hLs dL_law_252 dL_law_253 dL_law_254 dL_law_255 dL_law_256 ?_
  refine lycalli (u0 := (P, rel, len, tl, lf, tr, dn, ln, kn, ll, bo)) [.int (iI z)] S' hdis wy wx fY_part_L (mY_part l th pt nn od li st P rel len tl hC.2.2.2.2 (xs (i + 1)).toInt (xs (i + 2)).toInt (iI_rng _) (iI_rng _)) rfl ⟨Nat.le_of_ble_eq_true rfl, Nat.le_of_ble_eq_true rfl⟩ hl.1 (Nat.le_of_ble_eq_true rfl) rfl hcs dL_law_257 (fun z2 v H locs hp2 wy wx => ?_)
  have he : z = z2 := part_one hp hp2
  subst he
  exact lv_icmp_eq (tgt := 459) S'.1 S'.2.1 dL_law_260 (by decide) (fun _ => K _ _ ⟨(P, rel, len, tl, lf, tr, dn, ln, kn, ll, bo), (th, pt, nn, od, li, st), hC, wx, wy⟩) (fun q => absurd rfl q)
set_option maxHeartbeats 4000000 in
/-- case 5: least -/
theorem law_c5 {p : Program} (l : Launch) {e : Env} {s : State} {m : MethodId} {args : Array Value} {below : List Frame} {meth : Method} {c : Code} {H : Heap} {locs : List Loc} {cells slots : Nat} {Q : State → Prop} {ls : Array Slot} {D : va_G} {hx hy : Nat → Nat} {gx gy : Nat → ClassId} {A : Nat → Prop} (S' : CallFix p m c cL_law 4 s args lw_all "HeadTailLaw") (hdis : lDis hx hy) {b Ls : Nat} {xs : Nat → Int32} (hX : va_X b Ls xs s s.heap) (hbl : b < s.heap.size) (hbA : ¬ A b) (i : Nat) (hi : i + 5 ≤ Ls) (hLs : Ls ≤ 320) (hl : lv_has ls 4 [(3, .int (iI (i : Int))), (2, .ref (hy 0)), (1, .ref (hx 0)), (0, .ref b)]) (hI : lI D hx hy gx gy A s H locs) (hcs : cells ≤ 600000 ∧ slots ≤ 7290000) (K : ∀ H1 locs1, lI D hx hy gx gy A s H1 locs1 → W p l e room_1 s m args below meth c H1 locs1 cells slots Q (F0 m 459 ls [])) : W p l e room_1 s m args below meth c H locs cells slots Q (F0 m 265 ls []) := by
  obtain ⟨⟨P, rel, len, tl, lf, tr, dn, ln, kn, ll, bo⟩, ⟨th, pt, nn, od, li, st⟩, hC, wx, wy⟩ := hI
  have hC : lawC P rel len tl kn ll bo th pt := hC
  have wx : xA D hx gx A s s.heap P rel len tl lf tr dn ln kn ll bo H locs := wx
  have wy : yA D hy gy A s s.heap th pt nn od li st H locs := wy
  refine lv_aload_n S'.1 S'.2.1 dL_law_265 rfl (lv_at hl 2 rfl) ?_
  refine lxcalli (v0 := (th, pt, nn, od, li, st)) [] S' hdis wx wy fX_least_L (mX_least l P rel len tl lf tr dn ln kn ll bo hC.1 (lawC_d hC) hC.2.2.1 hC.2.2.2.1 ) rfl ⟨Nat.le_of_ble_eq_true rfl, Nat.le_of_ble_eq_true rfl⟩ hl.1 (Nat.le_of_ble_eq_true rfl) rfl hcs dL_law_266 (fun z u H locs hp wx wy => ?_)
  refine lv_aload_n S'.1 S'.2.1 dL_law_269 rfl (lv_at hl 1 rfl) ?_
  refine lycalli (u0 := (P, rel, len, tl, u.1, u.2.1, u.2.2.1, u.2.2.2.1, u.2.2.2.2.1, u.2.2.2.2.2.1, u.2.2.2.2.2.2)) [.int (iI z)] S' hdis wy wx fY_least_L (mY_least l th pt nn od li st P rel len tl hC.2.2.2.2 (lawC_d hC) ) rfl ⟨Nat.le_of_ble_eq_true rfl, Nat.le_of_ble_eq_true rfl⟩ hl.1 (Nat.le_of_ble_eq_true rfl) rfl hcs dL_law_270 (fun z2 v H locs hp2 wy wx => ?_)
  have he : z = z2 := least_one hC hp.2 hp2
  subst he
  exact lv_icmp_eq (tgt := 459) S'.1 S'.2.1 dL_law_273 (by decide) (fun _ => K _ _ ⟨(P, rel, len, tl, u.1, u.2.1, u.2.2.1, u.2.2.2.1, u.2.2.2.2.1, u.2.2.2.2.2.1, u.2.2.2.2.2.2), (th, pt, (cnt P : Int), (fact (cnt P) : Int), v.1, v.2), ⟨hC.1, hC.2.1, hC.2.2.1, hp.1, hC.2.2.2.2⟩, wx, wy⟩) (fun q => absurd rfl q)
set_option maxHeartbeats 4000000 in
/-- case 6: bestAt -/
theorem law_c6 {p : Program} (l : Launch) {e : Env} {s : State} {m : MethodId} {args : Array Value} {below : List Frame} {meth : Method} {c : Code} {H : Heap} {locs : List Loc} {cells slots : Nat} {Q : State → Prop} {ls : Array Slot} {D : va_G} {hx hy : Nat → Nat} {gx gy : Nat → ClassId} {A : Nat → Prop} (S' : CallFix p m c cL_law 4 s args lw_all "HeadTailLaw") (hdis : lDis hx hy) {b Ls : Nat} {xs : Nat → Int32} (hX : va_X b Ls xs s s.heap) (hbl : b < s.heap.size) (hbA : ¬ A b) (i : Nat) (hi : i + 5 ≤ Ls) (hLs : Ls ≤ 320) (hl : lv_has ls 4 [(3, .int (iI (i : Int))), (2, .ref (hy 0)), (1, .ref (hx 0)), (0, .ref b)]) (hI : lI D hx hy gx gy A s H locs) (hcs : cells ≤ 600000 ∧ slots ≤ 7290000) (K : ∀ H1 locs1, lI D hx hy gx gy A s H1 locs1 → W p l e room_1 s m args below meth c H1 locs1 cells slots Q (F0 m 459 ls [])) : W p l e room_1 s m args below meth c H locs cells slots Q (F0 m 278 ls []) := by
  obtain ⟨⟨P, rel, len, tl, lf, tr, dn, ln, kn, ll, bo⟩, ⟨th, pt, nn, od, li, st⟩, hC, wx, wy⟩ := hI
  have hC : lawC P rel len tl kn ll bo th pt := hC
  have wx : xA D hx gx A s s.heap P rel len tl lf tr dn ln kn ll bo H locs := wx
  have wy : yA D hy gy A s s.heap th pt nn od li st H locs := wy
  refine lv_aload_n S'.1 S'.2.1 dL_law_278 rfl (lv_at hl 2 rfl) ?_
  refine lw_arg S' hX hbl hbA wx.2.2.2.1 i 1 rfl hl (by omega) hLs dL_law_279 dL_law_280 dL_law_281 dL_law_282 dL_law_283 ?_
  refine lxcalli (v0 := (th, pt, nn, od, li, st)) [] S' hdis wx wy fX_bestAt_L (mX_bestAt l P rel len tl lf tr dn ln kn ll bo hC.1 (lawC_d hC) hC.2.2.1 hC.2.2.2.1 (xs (i + 1)).toInt (iI_rng _)) rfl ⟨Nat.le_of_ble_eq_true rfl, Nat.le_of_ble_eq_true rfl⟩ hl.1 (Nat.le_of_ble_eq_true rfl) rfl hcs dL_law_284 (fun z u H locs hp wx wy => ?_)
  refine lv_aload_n S'.1 S'.2.1 dL_law_287 rfl (lv_at hl 1 rfl) ?_
  refine lw_arg S' hX hbl hbA wx.2.2.2.1 i 1 rfl hl (by omega) hLs dL_law_288 dL_law_289 dL_law_290 dL_law_291 dL_law_292 ?_
  refine lycalli (u0 := (P, rel, len, tl, u.1, u.2.1, u.2.2.1, u.2.2.2.1, u.2.2.2.2.1, u.2.2.2.2.2.1, u.2.2.2.2.2.2)) [.int (iI z)] S' hdis wy wx fY_bestAt_L (mY_bestAt l th pt nn od li st P rel len tl hC.2.2.2.2 (lawC_d hC) (xs (i + 1)).toInt (iI_rng _)) rfl ⟨Nat.le_of_ble_eq_true rfl, Nat.le_of_ble_eq_true rfl⟩ hl.1 (Nat.le_of_ble_eq_true rfl) rfl hcs dL_law_293 (fun z2 v H locs hp2 wy wx => ?_)
  have he : z = z2 := bestAt_one hC hp.2 hp2
  subst he
  exact lv_icmp_eq (tgt := 459) S'.1 S'.2.1 dL_law_296 (by decide) (fun _ => K _ _ ⟨(P, rel, len, tl, u.1, u.2.1, u.2.2.1, u.2.2.2.1, u.2.2.2.2.1, u.2.2.2.2.2.1, u.2.2.2.2.2.2), (th, pt, (cnt P : Int), (fact (cnt P) : Int), v.1, v.2), ⟨hC.1, hC.2.1, hC.2.2.1, hp.1, hC.2.2.2.2⟩, wx, wy⟩) (fun q => absurd rfl q)
set_option maxHeartbeats 4000000 in
/-- case 7: begins -/
theorem law_c7 {p : Program} (l : Launch) {e : Env} {s : State} {m : MethodId} {args : Array Value} {below : List Frame} {meth : Method} {c : Code} {H : Heap} {locs : List Loc} {cells slots : Nat} {Q : State → Prop} {ls : Array Slot} {D : va_G} {hx hy : Nat → Nat} {gx gy : Nat → ClassId} {A : Nat → Prop} (S' : CallFix p m c cL_law 4 s args lw_all "HeadTailLaw") (hdis : lDis hx hy) {b Ls : Nat} {xs : Nat → Int32} (hX : va_X b Ls xs s s.heap) (hbl : b < s.heap.size) (hbA : ¬ A b) (i : Nat) (hi : i + 5 ≤ Ls) (hLs : Ls ≤ 320) (hl : lv_has ls 4 [(3, .int (iI (i : Int))), (2, .ref (hy 0)), (1, .ref (hx 0)), (0, .ref b)]) (hI : lI D hx hy gx gy A s H locs) (hcs : cells ≤ 600000 ∧ slots ≤ 7290000) (K : ∀ H1 locs1, lI D hx hy gx gy A s H1 locs1 → W p l e room_1 s m args below meth c H1 locs1 cells slots Q (F0 m 459 ls [])) : W p l e room_1 s m args below meth c H locs cells slots Q (F0 m 301 ls []) := by
  obtain ⟨⟨P, rel, len, tl, lf, tr, dn, ln, kn, ll, bo⟩, ⟨th, pt, nn, od, li, st⟩, hC, wx, wy⟩ := hI
  have hC : lawC P rel len tl kn ll bo th pt := hC
  have wx : xA D hx gx A s s.heap P rel len tl lf tr dn ln kn ll bo H locs := wx
  have wy : yA D hy gy A s s.heap th pt nn od li st H locs := wy
  refine lv_aload_n S'.1 S'.2.1 dL_law_301 rfl (lv_at hl 2 rfl) ?_
  refine lw_arg S' hX hbl hbA wx.2.2.2.1 i 1 rfl hl (by omega) hLs dL_law_302 dL_law_303 dL_law_304 dL_law_305 dL_law_306 ?_
  refine lxcalli (v0 := (th, pt, nn, od, li, st)) [] S' hdis wx wy fX_begins_L (mX_begins l P rel len tl lf tr dn ln kn ll bo hC.1 (lawC_d hC) hC.2.2.1 hC.2.2.2.1 (xs (i + 1)).toInt (iI_rng _)) rfl ⟨Nat.le_of_ble_eq_true rfl, Nat.le_of_ble_eq_true rfl⟩ hl.1 (Nat.le_of_ble_eq_true rfl) rfl hcs dL_law_307 (fun z u H locs hp wx wy => ?_)
  refine lv_aload_n S'.1 S'.2.1 dL_law_310 rfl (lv_at hl 1 rfl) ?_
  refine lw_arg S' hX hbl hbA wx.2.2.2.1 i 1 rfl hl (by omega) hLs dL_law_311 dL_law_312 dL_law_313 dL_law_314 dL_law_315 ?_
  refine lycalli (u0 := (P, rel, len, tl, u.1, u.2.1, u.2.2.1, u.2.2.2.1, u.2.2.2.2.1, u.2.2.2.2.2.1, u.2.2.2.2.2.2)) [.int (iI z)] S' hdis wy wx fY_begins_L (mY_begins l th pt nn od li st P rel len tl hC.2.2.2.2 (lawC_d hC) (xs (i + 1)).toInt (iI_rng _)) rfl ⟨Nat.le_of_ble_eq_true rfl, Nat.le_of_ble_eq_true rfl⟩ hl.1 (Nat.le_of_ble_eq_true rfl) rfl hcs dL_law_316 (fun z2 v H locs hp2 wy wx => ?_)
  have he : z = z2 := begins_one hC hp.2 hp2
  subst he
  exact lv_icmp_eq (tgt := 459) S'.1 S'.2.1 dL_law_319 (by decide) (fun _ => K _ _ ⟨(P, rel, len, tl, u.1, u.2.1, u.2.2.1, u.2.2.2.1, u.2.2.2.2.1, u.2.2.2.2.2.1, u.2.2.2.2.2.2), (th, pt, (cnt P : Int), (fact (cnt P) : Int), v.1, v.2), ⟨hC.1, hC.2.1, hC.2.2.1, hp.1, hC.2.2.2.2⟩, wx, wy⟩) (fun q => absurd rfl q)
set_option maxHeartbeats 4000000 in
/-- case 8: leastWith -/
theorem law_c8 {p : Program} (l : Launch) {e : Env} {s : State} {m : MethodId} {args : Array Value} {below : List Frame} {meth : Method} {c : Code} {H : Heap} {locs : List Loc} {cells slots : Nat} {Q : State → Prop} {ls : Array Slot} {D : va_G} {hx hy : Nat → Nat} {gx gy : Nat → ClassId} {A : Nat → Prop} (S' : CallFix p m c cL_law 4 s args lw_all "HeadTailLaw") (hdis : lDis hx hy) {b Ls : Nat} {xs : Nat → Int32} (hX : va_X b Ls xs s s.heap) (hbl : b < s.heap.size) (hbA : ¬ A b) (i : Nat) (hi : i + 5 ≤ Ls) (hLs : Ls ≤ 320) (hl : lv_has ls 4 [(3, .int (iI (i : Int))), (2, .ref (hy 0)), (1, .ref (hx 0)), (0, .ref b)]) (hI : lI D hx hy gx gy A s H locs) (hcs : cells ≤ 600000 ∧ slots ≤ 7290000) (K : ∀ H1 locs1, lI D hx hy gx gy A s H1 locs1 → W p l e room_1 s m args below meth c H1 locs1 cells slots Q (F0 m 459 ls [])) : W p l e room_1 s m args below meth c H locs cells slots Q (F0 m 324 ls []) := by
  obtain ⟨⟨P, rel, len, tl, lf, tr, dn, ln, kn, ll, bo⟩, ⟨th, pt, nn, od, li, st⟩, hC, wx, wy⟩ := hI
  have hC : lawC P rel len tl kn ll bo th pt := hC
  have wx : xA D hx gx A s s.heap P rel len tl lf tr dn ln kn ll bo H locs := wx
  have wy : yA D hy gy A s s.heap th pt nn od li st H locs := wy
  refine lv_aload_n S'.1 S'.2.1 dL_law_324 rfl (lv_at hl 2 rfl) ?_
  refine lw_arg S' hX hbl hbA wx.2.2.2.1 i 1 rfl hl (by omega) hLs dL_law_325 dL_law_326 dL_law_327 dL_law_328 dL_law_329 ?_
  refine lw_arg S' hX hbl hbA wx.2.2.2.1 i 2 rfl hl (by omega) hLs dL_law_330 dL_law_331 dL_law_332 dL_law_333 dL_law_334 ?_
  refine lxcalli (v0 := (th, pt, nn, od, li, st)) [] S' hdis wx wy fX_leastWith_L (mX_leastWith l P rel len tl lf tr dn ln kn ll bo hC.1 (lawC_d hC) hC.2.2.1 (xs (i + 1)).toInt (xs (i + 2)).toInt (iI_rng _) (iI_rng _)) rfl ⟨Nat.le_of_ble_eq_true rfl, Nat.le_of_ble_eq_true rfl⟩ hl.1 (Nat.le_of_ble_eq_true rfl) rfl hcs dL_law_335 (fun z u H locs hp wx wy => ?_)
  refine lv_aload_n S'.1 S'.2.1 dL_law_338 rfl (lv_at hl 1 rfl) ?_
  refine lw_arg S' hX hbl hbA wx.2.2.2.1 i 1 rfl hl (by omega) hLs dL_law_339 dL_law_340 dL_law_341 dL_law_342 dL_law_343 ?_
  refine lw_arg S' hX hbl hbA wx.2.2.2.1 i 2 rfl hl (by omega) hLs dL_law_344 dL_law_345 dL_law_346 dL_law_347 dL_law_348 ?_
  refine lycalli (u0 := (P, rel, len, tl, u.1, u.2.1, u.2.2.1, u.2.2.2, kn, ll, bo)) [.int (iI z)] S' hdis wy wx fY_leastWith_L (mY_leastWith l th pt nn od li st P rel len tl hC.2.2.2.2 (lawC_d hC) (xs (i + 1)).toInt (xs (i + 2)).toInt (iI_rng _) (iI_rng _)) rfl ⟨Nat.le_of_ble_eq_true rfl, Nat.le_of_ble_eq_true rfl⟩ hl.1 (Nat.le_of_ble_eq_true rfl) rfl hcs dL_law_349 (fun z2 v H locs hp2 wy wx => ?_)
  have he : z = z2 := with_one hC hp hp2
  subst he
  exact lv_icmp_eq (tgt := 459) S'.1 S'.2.1 dL_law_352 (by decide) (fun _ => K _ _ ⟨(P, rel, len, tl, u.1, u.2.1, u.2.2.1, u.2.2.2, kn, ll, bo), (th, pt, v.1, v.2.1, v.2.2.1, v.2.2.2), hC, wx, wy⟩) (fun q => absurd rfl q)
set_option maxHeartbeats 4000000 in
/-- case 9: leastFirst -/
theorem law_c9 {p : Program} (l : Launch) {e : Env} {s : State} {m : MethodId} {args : Array Value} {below : List Frame} {meth : Method} {c : Code} {H : Heap} {locs : List Loc} {cells slots : Nat} {Q : State → Prop} {ls : Array Slot} {D : va_G} {hx hy : Nat → Nat} {gx gy : Nat → ClassId} {A : Nat → Prop} (S' : CallFix p m c cL_law 4 s args lw_all "HeadTailLaw") (hdis : lDis hx hy) {b Ls : Nat} {xs : Nat → Int32} (hX : va_X b Ls xs s s.heap) (hbl : b < s.heap.size) (hbA : ¬ A b) (i : Nat) (hi : i + 5 ≤ Ls) (hLs : Ls ≤ 320) (hl : lv_has ls 4 [(3, .int (iI (i : Int))), (2, .ref (hy 0)), (1, .ref (hx 0)), (0, .ref b)]) (hI : lI D hx hy gx gy A s H locs) (hcs : cells ≤ 600000 ∧ slots ≤ 7290000) (K : ∀ H1 locs1, lI D hx hy gx gy A s H1 locs1 → W p l e room_1 s m args below meth c H1 locs1 cells slots Q (F0 m 459 ls [])) : W p l e room_1 s m args below meth c H locs cells slots Q (F0 m 357 ls []) := by
  obtain ⟨⟨P, rel, len, tl, lf, tr, dn, ln, kn, ll, bo⟩, ⟨th, pt, nn, od, li, st⟩, hC, wx, wy⟩ := hI
  have hC : lawC P rel len tl kn ll bo th pt := hC
  have wx : xA D hx gx A s s.heap P rel len tl lf tr dn ln kn ll bo H locs := wx
  have wy : yA D hy gy A s s.heap th pt nn od li st H locs := wy
  refine lv_aload_n S'.1 S'.2.1 dL_law_357 rfl (lv_at hl 2 rfl) ?_
  refine lw_arg S' hX hbl hbA wx.2.2.2.1 i 1 rfl hl (by omega) hLs dL_law_358 dL_law_359 dL_law_360 dL_law_361 dL_law_362 ?_
  refine lxcalli (v0 := (th, pt, nn, od, li, st)) [] S' hdis wx wy fX_leastFirst_L (mX_leastFirst l P rel len tl lf tr dn ln kn ll bo hC.1 (lawC_d hC) hC.2.2.1 (xs (i + 1)).toInt (iI_rng _)) rfl ⟨Nat.le_of_ble_eq_true rfl, Nat.le_of_ble_eq_true rfl⟩ hl.1 (Nat.le_of_ble_eq_true rfl) rfl hcs dL_law_363 (fun z u H locs hp wx wy => ?_)
  refine lv_aload_n S'.1 S'.2.1 dL_law_366 rfl (lv_at hl 1 rfl) ?_
  refine lw_arg S' hX hbl hbA wx.2.2.2.1 i 1 rfl hl (by omega) hLs dL_law_367 dL_law_368 dL_law_369 dL_law_370 dL_law_371 ?_
  refine lycalli (u0 := (P, rel, len, tl, u.1, u.2.1, u.2.2.1, u.2.2.2, kn, ll, bo)) [.int (iI z)] S' hdis wy wx fY_leastFirst_L (mY_leastFirst l th pt nn od li st P rel len tl hC.2.2.2.2 (lawC_d hC) (xs (i + 1)).toInt (iI_rng _)) rfl ⟨Nat.le_of_ble_eq_true rfl, Nat.le_of_ble_eq_true rfl⟩ hl.1 (Nat.le_of_ble_eq_true rfl) rfl hcs dL_law_372 (fun z2 v H locs hp2 wy wx => ?_)
  have he : z = z2 := first_one hC hp hp2
  subst he
  exact lv_icmp_eq (tgt := 459) S'.1 S'.2.1 dL_law_375 (by decide) (fun _ => K _ _ ⟨(P, rel, len, tl, u.1, u.2.1, u.2.2.1, u.2.2.2, kn, ll, bo), (th, pt, v.1, v.2.1, v.2.2.1, v.2.2.2), hC, wx, wy⟩) (fun q => absurd rfl q)
set_option maxHeartbeats 4000000 in
/-- case 10: interrupted -/
theorem law_c10 {p : Program} (l : Launch) {e : Env} {s : State} {m : MethodId} {args : Array Value} {below : List Frame} {meth : Method} {c : Code} {H : Heap} {locs : List Loc} {cells slots : Nat} {Q : State → Prop} {ls : Array Slot} {D : va_G} {hx hy : Nat → Nat} {gx gy : Nat → ClassId} {A : Nat → Prop} (S' : CallFix p m c cL_law 4 s args lw_all "HeadTailLaw") (hdis : lDis hx hy) {b Ls : Nat} {xs : Nat → Int32} (hX : va_X b Ls xs s s.heap) (hbl : b < s.heap.size) (hbA : ¬ A b) (i : Nat) (hi : i + 5 ≤ Ls) (hLs : Ls ≤ 320) (hl : lv_has ls 4 [(3, .int (iI (i : Int))), (2, .ref (hy 0)), (1, .ref (hx 0)), (0, .ref b)]) (hI : lI D hx hy gx gy A s H locs) (hcs : cells ≤ 600000 ∧ slots ≤ 7290000) (K : ∀ H1 locs1, lI D hx hy gx gy A s H1 locs1 → W p l e room_1 s m args below meth c H1 locs1 cells slots Q (F0 m 459 ls [])) : W p l e room_1 s m args below meth c H locs cells slots Q (F0 m 380 ls []) := by
  obtain ⟨⟨P, rel, len, tl, lf, tr, dn, ln, kn, ll, bo⟩, ⟨th, pt, nn, od, li, st⟩, hC, wx, wy⟩ := hI
  have hC : lawC P rel len tl kn ll bo th pt := hC
  have wx : xA D hx gx A s s.heap P rel len tl lf tr dn ln kn ll bo H locs := wx
  have wy : yA D hy gy A s s.heap th pt nn od li st H locs := wy
  refine lv_aload_n S'.1 S'.2.1 dL_law_380 rfl (lv_at hl 2 rfl) ?_
  refine lxcalli (v0 := (th, pt, nn, od, li, st)) [] S' hdis wx wy fX_interrupted_L (mX_interrupted l P rel len tl lf tr dn ln kn ll bo hC.1 (lawC_d hC) hC.2.2.1 ) rfl ⟨Nat.le_of_ble_eq_true rfl, Nat.le_of_ble_eq_true rfl⟩ hl.1 (Nat.le_of_ble_eq_true rfl) rfl hcs dL_law_381 (fun z u H locs hp wx wy => ?_)
  refine lv_aload_n S'.1 S'.2.1 dL_law_384 rfl (lv_at hl 1 rfl) ?_
  refine lycalli (u0 := (P, rel, len, tl, u, tr, dn, ln, kn, ll, bo)) [.int (iI z)] S' hdis wy wx fY_interrupted_L (mY_interrupted l th pt nn od li st P rel len tl hC.2.2.2.2 (lawC_d hC) (lawC_40 hC) ) rfl ⟨Nat.le_of_ble_eq_true rfl, Nat.le_of_ble_eq_true rfl⟩ hl.1 (Nat.le_of_ble_eq_true rfl) rfl hcs dL_law_385 (fun z2 v H locs hp2 wy wx => ?_)
  have he : z = z2 := jpsIs_one hp hp2
  subst he
  exact lv_icmp_eq (tgt := 459) S'.1 S'.2.1 dL_law_388 (by decide) (fun _ => K _ _ ⟨(P, rel, len, tl, u, tr, dn, ln, kn, ll, bo), (th, pt, nn, od, li, st), hC, wx, wy⟩) (fun q => absurd rfl q)
set_option maxHeartbeats 4000000 in
/-- case 11: tailFor -/
theorem law_c11 {p : Program} (l : Launch) {e : Env} {s : State} {m : MethodId} {args : Array Value} {below : List Frame} {meth : Method} {c : Code} {H : Heap} {locs : List Loc} {cells slots : Nat} {Q : State → Prop} {ls : Array Slot} {D : va_G} {hx hy : Nat → Nat} {gx gy : Nat → ClassId} {A : Nat → Prop} (S' : CallFix p m c cL_law 4 s args lw_all "HeadTailLaw") (hdis : lDis hx hy) {b Ls : Nat} {xs : Nat → Int32} (hX : va_X b Ls xs s s.heap) (hbl : b < s.heap.size) (hbA : ¬ A b) (i : Nat) (hi : i + 5 ≤ Ls) (hLs : Ls ≤ 320) (hl : lv_has ls 4 [(3, .int (iI (i : Int))), (2, .ref (hy 0)), (1, .ref (hx 0)), (0, .ref b)]) (hI : lI D hx hy gx gy A s H locs) (hcs : cells ≤ 600000 ∧ slots ≤ 7290000) (K : ∀ H1 locs1, lI D hx hy gx gy A s H1 locs1 → W p l e room_1 s m args below meth c H1 locs1 cells slots Q (F0 m 459 ls [])) : W p l e room_1 s m args below meth c H locs cells slots Q (F0 m 393 ls []) := by
  obtain ⟨⟨P, rel, len, tl, lf, tr, dn, ln, kn, ll, bo⟩, ⟨th, pt, nn, od, li, st⟩, hC, wx, wy⟩ := hI
  have hC : lawC P rel len tl kn ll bo th pt := hC
  have wx : xA D hx gx A s s.heap P rel len tl lf tr dn ln kn ll bo H locs := wx
  have wy : yA D hy gy A s s.heap th pt nn od li st H locs := wy
  refine lv_aload_n S'.1 S'.2.1 dL_law_393 rfl (lv_at hl 2 rfl) ?_
  refine lw_arg S' hX hbl hbA wx.2.2.2.1 i 1 rfl hl (by omega) hLs dL_law_394 dL_law_395 dL_law_396 dL_law_397 dL_law_398 ?_
  refine lw_arg S' hX hbl hbA wx.2.2.2.1 i 2 rfl hl (by omega) hLs dL_law_399 dL_law_400 dL_law_401 dL_law_402 dL_law_403 ?_
  refine lxcalli (v0 := (th, pt, nn, od, li, st)) [] S' hdis wx wy fX_tailFor_L (mX_tailFor l P rel len tl lf tr dn ln kn ll bo hC.1 (lawC_d hC) hC.2.2.1 (xs (i + 1)).toInt (xs (i + 2)).toInt (iI_rng _) (iI_rng _)) rfl ⟨Nat.le_of_ble_eq_true rfl, Nat.le_of_ble_eq_true rfl⟩ hl.1 (Nat.le_of_ble_eq_true rfl) rfl hcs dL_law_404 (fun z u H locs hp wx wy => ?_)
  refine lv_aload_n S'.1 S'.2.1 dL_law_407 rfl (lv_at hl 1 rfl) ?_
  refine lw_arg S' hX hbl hbA wx.2.2.2.1 i 1 rfl hl (by omega) hLs dL_law_408 dL_law_409 dL_law_410 dL_law_411 dL_law_412 ?_
  refine lw_arg S' hX hbl hbA wx.2.2.2.1 i 2 rfl hl (by omega) hLs dL_law_413 dL_law_414 dL_law_415 dL_law_416 dL_law_417 ?_
  refine lycalli (u0 := (P, rel, len, tl, u.1, u.2.1, u.2.2.1, u.2.2.2, kn, ll, bo)) [.int (iI z)] S' hdis wy wx fY_tailFor_L (mY_tailFor l th pt nn od li st P rel len tl hC.2.2.2.2 (lawC_d hC) (xs (i + 1)).toInt (xs (i + 2)).toInt (iI_rng _) (iI_rng _)) rfl ⟨Nat.le_of_ble_eq_true rfl, Nat.le_of_ble_eq_true rfl⟩ hl.1 (Nat.le_of_ble_eq_true rfl) rfl hcs dL_law_418 (fun z2 v H locs hp2 wy wx => ?_)
  have he : z = z2 := great_one (Q := fun k z => fits_ rel len (updZ tl k z) P (xs (i + 2)).toInt) hp hp2
  subst he
  exact lv_icmp_eq (tgt := 459) S'.1 S'.2.1 dL_law_421 (by decide) (fun _ => K _ _ ⟨(P, rel, len, tl, u.1, u.2.1, u.2.2.1, u.2.2.2, kn, ll, bo), (th, pt, v.1, v.2.1, v.2.2.1, v.2.2.2), hC, wx, wy⟩) (fun q => absurd rfl q)
set_option maxHeartbeats 4000000 in
/-- case 12: releaseFor -/
theorem law_c12 {p : Program} (l : Launch) {e : Env} {s : State} {m : MethodId} {args : Array Value} {below : List Frame} {meth : Method} {c : Code} {H : Heap} {locs : List Loc} {cells slots : Nat} {Q : State → Prop} {ls : Array Slot} {D : va_G} {hx hy : Nat → Nat} {gx gy : Nat → ClassId} {A : Nat → Prop} (S' : CallFix p m c cL_law 4 s args lw_all "HeadTailLaw") (hdis : lDis hx hy) {b Ls : Nat} {xs : Nat → Int32} (hX : va_X b Ls xs s s.heap) (hbl : b < s.heap.size) (hbA : ¬ A b) (i : Nat) (hi : i + 5 ≤ Ls) (hLs : Ls ≤ 320) (hl : lv_has ls 4 [(3, .int (iI (i : Int))), (2, .ref (hy 0)), (1, .ref (hx 0)), (0, .ref b)]) (hI : lI D hx hy gx gy A s H locs) (hcs : cells ≤ 600000 ∧ slots ≤ 7290000) (K : ∀ H1 locs1, lI D hx hy gx gy A s H1 locs1 → W p l e room_1 s m args below meth c H1 locs1 cells slots Q (F0 m 459 ls [])) : W p l e room_1 s m args below meth c H locs cells slots Q (F0 m 426 ls []) := by
  obtain ⟨⟨P, rel, len, tl, lf, tr, dn, ln, kn, ll, bo⟩, ⟨th, pt, nn, od, li, st⟩, hC, wx, wy⟩ := hI
  have hC : lawC P rel len tl kn ll bo th pt := hC
  have wx : xA D hx gx A s s.heap P rel len tl lf tr dn ln kn ll bo H locs := wx
  have wy : yA D hy gy A s s.heap th pt nn od li st H locs := wy
  refine lv_aload_n S'.1 S'.2.1 dL_law_426 rfl (lv_at hl 2 rfl) ?_
  refine lw_arg S' hX hbl hbA wx.2.2.2.1 i 1 rfl hl (by omega) hLs dL_law_427 dL_law_428 dL_law_429 dL_law_430 dL_law_431 ?_
  refine lw_arg S' hX hbl hbA wx.2.2.2.1 i 2 rfl hl (by omega) hLs dL_law_432 dL_law_433 dL_law_434 dL_law_435 dL_law_436 ?_
  refine lxcalli (v0 := (th, pt, nn, od, li, st)) [] S' hdis wx wy fX_releaseFor_L (mX_releaseFor l P rel len tl lf tr dn ln kn ll bo hC.1 (lawC_d hC) hC.2.2.1 (xs (i + 1)).toInt (xs (i + 2)).toInt (iI_rng _) (iI_rng _)) rfl ⟨Nat.le_of_ble_eq_true rfl, Nat.le_of_ble_eq_true rfl⟩ hl.1 (Nat.le_of_ble_eq_true rfl) rfl hcs dL_law_437 (fun z u H locs hp wx wy => ?_)
  refine lv_aload_n S'.1 S'.2.1 dL_law_440 rfl (lv_at hl 1 rfl) ?_
  refine lw_arg S' hX hbl hbA wx.2.2.2.1 i 1 rfl hl (by omega) hLs dL_law_441 dL_law_442 dL_law_443 dL_law_444 dL_law_445 ?_
  refine lw_arg S' hX hbl hbA wx.2.2.2.1 i 2 rfl hl (by omega) hLs dL_law_446 dL_law_447 dL_law_448 dL_law_449 dL_law_450 ?_
  refine lycalli (u0 := (P, rel, len, tl, u.1, u.2.1, u.2.2.1, u.2.2.2, kn, ll, bo)) [.int (iI z)] S' hdis wy wx fY_releaseFor_L (mY_releaseFor l th pt nn od li st P rel len tl hC.2.2.2.2 (lawC_d hC) (xs (i + 1)).toInt (xs (i + 2)).toInt (iI_rng _) (iI_rng _)) rfl ⟨Nat.le_of_ble_eq_true rfl, Nat.le_of_ble_eq_true rfl⟩ hl.1 (Nat.le_of_ble_eq_true rfl) rfl hcs dL_law_451 (fun z2 v H locs hp2 wy wx => ?_)
  have he : z = z2 := great_one (Q := fun k z => fits_ (updZ rel k z) len tl P (xs (i + 2)).toInt) hp hp2
  subst he
  exact lv_icmp_eq (tgt := 459) S'.1 S'.2.1 dL_law_454 (by decide) (fun _ => K _ _ ⟨(P, rel, len, tl, u.1, u.2.1, u.2.2.1, u.2.2.2, kn, ll, bo), (th, pt, v.1, v.2.1, v.2.2.1, v.2.2.2), hC, wx, wy⟩) (fun q => absurd rfl q)
end
section
/-! the law: its loop, its start (the words lw_P .. lw_At as the skeleton has them) -/
set_option maxRecDepth 100000
/-! THE CLAIM OUT OF ONE WALK OF THE LAW'S BODY. Your part is whole_start (and what it stands on); all else here is the same for every law, but numbers. -/
def R_law : String := "HeadTailLaw"
def lw_P (b : Addr) (xs : List Int32) (args : Array Value) (s : State) : Prop := args = #[.ref b] ∧ s.IntsAt b xs ∧ xs.length ≤ 320 ∧ (Jvm.Cond.and given_1 narrow_1).before args s = true
def lw_Q (_ : Array Value) (s : State) (o : Outcome) (t : State) : Prop := o = .returned (some (.int 1)) ∧ Framed s o t [] 600000 7290000
def lw_Z (below : List Frame) (a : Array Value) (s : State) : State → Prop := fun t => ∃ o, t.status = .running ∧ Ended t below o ∧ lw_Q a s o t
/-- the law's own end, with 1 on the stack, nothing written that was there before, its room as the claim has it -/
theorem lw_ret {p : Program} {l : Launch} {e : Env} {s : State} {m : MethodId} {below : List Frame} {meth : Method} {c : Code} {b : Nat} (hx : p.tables.exec = Jvm.exec) (hb : c.code = code) (hr : meth.sig.returnType = ret) (hlocks : meth.locks = false) {pc : Nat} {H : Heap} {ls : Array Slot} (hdg : decode code pc = .ok (.ireturn, 1)) : W p l e room_1 s m #[Value.ref b] below meth c H [] 600000 7290000 (lw_Z below #[Value.ref b] s) (F0 m pc ls [.int 1]) := by
  intro T hT X
  obtain ⟨fs, hret, hrun, hended, hW, hframe⟩ := X.leave (v := some (.int 1)) (hlocks := hlocks) (fun h => by rw [hr] at h; cases h)
  have hmeth' : T.vm.method? m = some meth := X.method'
  refine ⟨T.setFrames fs, ?_, .returned (some (.int 1)), hrun, hended, rfl, ⟨_, rfl⟩, hW, hframe⟩
  jvm_step X.here [X.here.top, hx, hb, hdg, hmeth', hr, ret, narrow_b1]
  (try refine ⟨rfl, ?_⟩); (try refine ⟨rfl, ?_⟩)
  first | (intro acts; rw [hret _ acts rfl rfl rfl]) | rw [hret _ _ rfl rfl rfl]
  exact Steps.refl _
/-- what holds at the law's entry: the machine, the code, the tables' words (any of lw_tbl by 'hts w (by decide +kernel)'), the script of L ints xs at the cell b, what the Statement gives of the start (any of its parts by flat_of_before) -/
def lw_At (p : Program) (s : State) (m : MethodId) (meth : Method) (c : Code) (b L : Nat) (xs : Nat → Int32) : Prop :=
  p.tables.exec = Jvm.exec ∧ c.code = code ∧ meth.sig.returnType = ret ∧ c.maxLocals = 4 ∧ s.vm.findClass R_law = some m.cls ∧ (∀ w ∈ lw_tbl, w.before #[Value.ref b] s = true) ∧ va_X b L xs s s.heap ∧ b < s.heap.size ∧ meth.locks = false ∧ (Jvm.Cond.and given_1 narrow_1).before #[Value.ref b] s = true
set_option maxHeartbeats 4000000 in
/-- the law's loop at its head -/
theorem law_loop {p : Program} (l : Launch) {e : Env} {s : State} {m : MethodId} {below : List Frame} {meth : Method} {c : Code} {cells slots : Nat} {D : va_G} {hx hy : Nat → Nat} {gx gy : Nat → ClassId} {b Ls : Nat} {xs : Nat → Int32} (S' : CallFix p m c cL_law 4 s #[Value.ref b] lw_all "HeadTailLaw") (hr : meth.sig.returnType = ret) (hlocks : meth.locks = false) (hdis : lDis hx hy) (hX : va_X b Ls xs s s.heap) (hbl : b < s.heap.size) (hLs : Ls ≤ 320) (hcs : cells ≤ 600000 ∧ slots ≤ 7290000) :
    ∀ (n : Nat) (H : Heap) (locs : List Loc) (ls : Array Slot), (∃ i : Nat, n = 400 - i ∧ i ≤ Ls + 4 ∧ lI D hx hy gx gy (fun q : Nat => s.heap.size ≤ q) s H locs ∧ lv_has ls 4 [(3, .int (iI (i : Int))), (2, .ref (hy 0)), (1, .ref (hx 0)), (0, .ref b)]) → W p l e room_1 s m #[Value.ref b] below meth c H locs cells slots (lw_Z below #[Value.ref b] s) (F0 m 18 ls []) := by
  have hbA : ¬ (fun q : Nat => s.heap.size ≤ q) b := Nat.not_le.mpr hbl
  refine W_loop (fun n H locs ls => ∃ i : Nat, n = 400 - i ∧ i ≤ Ls + 4 ∧ lI D hx hy gx gy (fun q : Nat => s.heap.size ≤ q) s H locs ∧ lv_has ls 4 [(3, .int (iI (i : Int))), (2, .ref (hy 0)), (1, .ref (hx 0)), (0, .ref b)]) 18 ?_
  intro n H locs ls hinv ih
  obtain ⟨i, hn, hi4, hI, hl⟩ := hinv
  have hS : va_S (fun q : Nat => s.heap.size ≤ q) s.heap H locs := by
    obtain ⟨u, v, -, wx, -⟩ := hI
    exact wx.2.2.2.1
  refine lv_iload_n S'.1 S'.2.1 dL_law_18 rfl (lv_at hl 0 rfl) ?_
  refine lv_aload_n S'.1 S'.2.1 dL_law_19 rfl (lv_at hl 3 rfl) ?_
  refine va_slen S'.1 S'.2.1 hX hbl hbA hS dL_law_20 ?_
  rw [show Int32.ofNat Ls = iI (Ls : Int) from (iI_nI Ls).symm]
  refine zi_iconst S' dL_law_21 ?_
  refine zi_isub S' dL_law_22 ?_
  refine zi_icmp_gt (tgt := 465) S' dL_law_23 (by decide) (by omega) (by omega) (fun c1 => ?_) (fun c1 => ?_)
  · refine lv_iconst (v := 1) S'.1 S'.2.1 dL_law_465 (by decide) ?_
    refine va_forget hS.2.2 ?_
    refine W.widen (k := 600000) (n := 7290000) hcs.1 hcs.2 ?_
    exact lw_ret S'.1 S'.2.1 hr hlocks dL_law_466
  · have hi : i + 5 ≤ Ls := by omega
    have K : ∀ H1 locs1, lI D hx hy gx gy (fun q : Nat => s.heap.size ≤ q) s H1 locs1 → W p l e room_1 s m #[Value.ref b] below meth c H1 locs1 cells slots (lw_Z below #[Value.ref b] s) (F0 m 459 ls []) := by
      intro H1 locs1 hI1
      refine lv_iinc (v := iI ((i + 5 : Nat) : Int)) (lv' := [(3, .int (iI ((i + 5 : Nat) : Int))), (2, .ref (hy 0)), (1, .ref (hx 0)), (0, .ref b)]) S'.1 S'.2.1 dL_law_459 hl (k := 0) rfl ((iI_add _ _).trans (congrArg iI (by omega))) (by decide) rfl (fun ls hl => ?_)
      refine lv_goto (tgt := 18) S'.1 S'.2.1 dL_law_462 (by decide) ?_
      exact ih (400 - (i + 5)) H1 locs1 ls (by omega) ⟨i + 5, rfl, by omega, hI1, hl⟩
    refine lv_aload_n S'.1 S'.2.1 dL_law_26 rfl (lv_at hl 3 rfl) ?_
    refine lv_iload_n S'.1 S'.2.1 dL_law_27 rfl (lv_at hl 0 rfl) ?_
    refine va_sld S'.1 S'.2.1 hX hbl hbA hS (iI_in (show i < Ls by omega) (by omega)) dL_law_28 ?_
    refine lv_bipush (v := iI 15) S'.1 S'.2.1 dL_law_29 (by decide) ?_
    refine lv_iand S'.1 S'.2.1 dL_law_31 ?_
    obtain ⟨n4, hn4, en4⟩ := low4 (xs (iI (i : Int)).toNatClampNeg)
    rw [en4]
    rcases (show n4 = 0 ∨ n4 = 1 ∨ n4 = 2 ∨ n4 = 3 ∨ n4 = 4 ∨ n4 = 5 ∨ n4 = 6 ∨ n4 = 7 ∨ n4 = 8 ∨ n4 = 9 ∨ n4 = 10 ∨ n4 = 11 ∨ n4 = 12 ∨ 13 ≤ n4 by omega) with rfl | rfl | rfl | rfl | rfl | rfl | rfl | rfl | rfl | rfl | rfl | rfl | rfl | h13
    · exact lv_tableIn (tgt := 100) (off := 68) S'.1 S'.2.1 dL_law_32 (by decide +kernel) (by decide +kernel) (by decide +kernel) (by decide) (law_c0 l S' hdis hX hbl hbA i hi hLs hl hI hcs K)
    · exact lv_tableIn (tgt := 143) (off := 111) S'.1 S'.2.1 dL_law_32 (by decide +kernel) (by decide +kernel) (by decide +kernel) (by decide) (law_c1 l S' hdis hX hbl hbA i hi hLs hl hI hcs K)
    · exact lv_tableIn (tgt := 166) (off := 134) S'.1 S'.2.1 dL_law_32 (by decide +kernel) (by decide +kernel) (by decide +kernel) (by decide) (law_c2 l S' hdis hX hbl hbA i hi hLs hl hI hcs K)
    · exact lv_tableIn (tgt := 219) (off := 187) S'.1 S'.2.1 dL_law_32 (by decide +kernel) (by decide +kernel) (by decide +kernel) (by decide) (law_c3 l S' hdis hX hbl hbA i hi hLs hl hI hcs K)
    · exact lv_tableIn (tgt := 232) (off := 200) S'.1 S'.2.1 dL_law_32 (by decide +kernel) (by decide +kernel) (by decide +kernel) (by decide) (law_c4 l S' hdis hX hbl hbA i hi hLs hl hI hcs K)
    · exact lv_tableIn (tgt := 265) (off := 233) S'.1 S'.2.1 dL_law_32 (by decide +kernel) (by decide +kernel) (by decide +kernel) (by decide) (law_c5 l S' hdis hX hbl hbA i hi hLs hl hI hcs K)
    · exact lv_tableIn (tgt := 278) (off := 246) S'.1 S'.2.1 dL_law_32 (by decide +kernel) (by decide +kernel) (by decide +kernel) (by decide) (law_c6 l S' hdis hX hbl hbA i hi hLs hl hI hcs K)
    · exact lv_tableIn (tgt := 301) (off := 269) S'.1 S'.2.1 dL_law_32 (by decide +kernel) (by decide +kernel) (by decide +kernel) (by decide) (law_c7 l S' hdis hX hbl hbA i hi hLs hl hI hcs K)
    · exact lv_tableIn (tgt := 324) (off := 292) S'.1 S'.2.1 dL_law_32 (by decide +kernel) (by decide +kernel) (by decide +kernel) (by decide) (law_c8 l S' hdis hX hbl hbA i hi hLs hl hI hcs K)
    · exact lv_tableIn (tgt := 357) (off := 325) S'.1 S'.2.1 dL_law_32 (by decide +kernel) (by decide +kernel) (by decide +kernel) (by decide) (law_c9 l S' hdis hX hbl hbA i hi hLs hl hI hcs K)
    · exact lv_tableIn (tgt := 380) (off := 348) S'.1 S'.2.1 dL_law_32 (by decide +kernel) (by decide +kernel) (by decide +kernel) (by decide) (law_c10 l S' hdis hX hbl hbA i hi hLs hl hI hcs K)
    · exact lv_tableIn (tgt := 393) (off := 361) S'.1 S'.2.1 dL_law_32 (by decide +kernel) (by decide +kernel) (by decide +kernel) (by decide) (law_c11 l S' hdis hX hbl hbA i hi hLs hl hI hcs K)
    · exact lv_tableIn (tgt := 426) (off := 394) S'.1 S'.2.1 dL_law_32 (by decide +kernel) (by decide +kernel) (by decide +kernel) (by decide) (law_c12 l S' hdis hX hbl hbA i hi hLs hl hI hcs K)
    · refine lv_tableOut (tgt := 459) S'.1 S'.2.1 dL_law_32 (Or.inr ?_) (by decide) (K H locs hI)
      rw [iI_toInt (by omega)]
      omega
set_option maxHeartbeats 4000000 in
/-- THE LAW, from its entry -/
theorem whole_start {p : Program} {e : Env} {s : State} {m : MethodId} {below : List Frame} {meth : Method} {c : Code} (l : Launch) {b L : Nat} {xs : Nat → Int32} (hL : L ≤ 320) (C0 : lw_At p s m meth c b L xs) : W p l e room_1 s m #[Value.ref b] below meth c s.heap [] 0 0 (lw_Z below #[Value.ref b] s) (entryFrame m ([Value.ref b] : List Value).toArray 4) := by
  obtain ⟨hx, hb, hr, hml, hown, hts0, hX, hbl, hlocks, hgv⟩ := id C0
  have hts : ∀ w ∈ lw_all, w.before #[Value.ref b] s = true := fun w h => hts0 w (lw_all_tbl h)
  have hA : ∀ q : Nat, s.heap.size ≤ q → (fun q : Nat => s.heap.size ≤ q) q := fun _ h => h
  obtain ⟨c0, iS0, hKn0⟩ := u_known (C := RX0) (T := TX0) (N := 11) (n := 11) hts in_X0 (hts _ q29)
  obtain ⟨c1, iS1, hKn1⟩ := u_known (C := RX1) (T := TX1) (N := 6) (n := 6) hts in_X1 (hts _ q186)
  obtain ⟨D, hKc⟩ : ∃ D : va_G, ∀ (k : Nat) (q : vw_C), vwCl[k]? = some q → u_Kn s q.1 q.2.1 q.2.2 (D.1 k) (D.2 k) := by
    refine ⟨(fun k => if k = 0 then c0 else c1, fun k => if k = 0 then iS0 else iS1), ?_⟩
    intro k q hq
    match k, hq with
    | 0, hq => cases hq; exact hKn0
    | 1, hq => cases hq; exact hKn1
    | k + 2, hq => simp [vwCl] at hq
  have hS : va_S (fun q : Nat => s.heap.size ≤ q) s.heap s.heap [] := va_S.rf
  have hK : va_K D vwCl [] s := ⟨hKc, fun k q h => by simp at h⟩
  have hP : va_P D vwCl [] s.heap := fun k q h => by simp at h
  have hD : va_D (fun q : Nat => s.heap.size ≤ q) [] := ⟨fun i j p q h => by simp at h, fun k q h => by simp at h⟩
  have hl := lv_entry ([.ref b]) (n := 4) (Nat.le_of_ble_eq_true rfl)
  rw [lg_entry_eq]
  generalize (lg_sl ([.ref b]) ++ List.replicate (4 - (lg_sl ([.ref b])).length) Slot.unset).toArray = ls at hl ⊢
  have hl : lv_has ls 4 [(0, .ref b)] := hl
  refine va_new (ci := 0) (fs := fs0X) (C := RX0) (T := TX0) (N := 11) hx hb hts in_X0 tyX0 tyX0_ok hown (hts _ q28) (hts _ q29) (hts _ q26) hK hP hD hS hA rfl (fun j hj => by rcases (show j = 0 ∨ j = 1 ∨ j = 2 ∨ j = 3 ∨ j = 4 ∨ j = 5 ∨ j = 6 ∨ j = 7 ∨ j = 8 ∨ j = 9 ∨ j = 10 by omega) with rfl | rfl | rfl | rfl | rfl | rfl | rfl | rfl | rfl | rfl | rfl <;> rfl) (Nat.le_of_ble_eq_true rfl) (Nat.le_of_ble_eq_true rfl) dL_law_0 (fun qx H hP hD hS => ?_)
  have hP : va_P D vwCl [(qx, .inr (0, fs0X))] H := hP
  have hD : va_D (fun q : Nat => s.heap.size ≤ q) [(qx, .inr (0, fs0X))] := hD
  refine lv_dup hx hb dL_law_3 rfl ?_
  have hPc := hP
  have hDc := hD
  have hKc := hK
  have hFc := va_free (wc := [(qx, .inr (0, fs0X))]) hD hS hA [0] rfl
  refine va_callv (va_runI (As := []) (rest := [.ref qx]) ⟨hx, hb, hml, hown, hts⟩ (mX_init l D qx H.size) (cwI 0 hts (lw_meth q32) rfl rfl rfl (hts _ q26) (hts _ q30) (hts _ q31) rfl (by decide +kernel) ⟨Nat.le_of_ble_eq_true rfl, Nat.le_of_ble_eq_true rfl⟩) ⟨fun a U g mk q => by obtain ⟨q0, q1, qP, qK, qD⟩ := q; exact ⟨q0, q1, qP, va_K.moved (u := U) (U := U.calling g mk a) (Vm.Alike.refl U.vm) qK, qD⟩, fun U hU hW => ⟨rfl, by rw [hU], by rw [hU]; exact hPc, va_K.moved hW.alike hKc, hDc.weaken (fun _ _ _ _ => trivial)⟩⟩ rfl rfl hl.1 rfl (lv_room (Nat.le_of_ble_eq_true rfl)) dL_law_4 ⟨Nat.le_of_ble_eq_true rfl, Nat.le_of_ble_eq_true rfl⟩) hS (fun q _ h => hFc q h) hFc (fun u t H1 locs ht hvm hw hB hz1 hk1 hS => ?_)
  obtain ⟨ax, gx⟩ := u
  have hw : ax 0 = qx := hw
  subst hw
  obtain ⟨hP1, hK1, hD1⟩ := hB
  rw [ht] at hP1
  have hKx : va_K D vwCl (xT gx) s := va_K.moved hvm.symm hK1
  obtain ⟨hP, hD⟩ := va_join (wr := []) (w1 := xwu ax gx ((0 : Nat), zf, zf, zf, zf, zf, zf, zf, (0 : Int), (0 : Int), zf)) hP hD [0] [] rfl rfl (by decide) (by decide) hk1 hFc hP1 hD1
  generalize H1 = H at hP hS ⊢
  have hP : va_P D vwCl (xwu ax gx ((0 : Nat), zf, zf, zf, zf, zf, zf, zf, (0 : Int), (0 : Int), zf)) H := hP
  have hD : va_D (fun q : Nat => s.heap.size ≤ q) (xwu ax gx ((0 : Nat), zf, zf, zf, zf, zf, zf, zf, (0 : Int), (0 : Int), zf)) := hD
  refine lv_astore_n (lv' := [(1, .ref (ax 0)), (0, .ref b)]) hx hb dL_law_7 rfl hl (by decide) rfl (fun ls hl => ?_)
  refine va_new (ci := 1) (fs := fs0Y) (C := RX1) (T := TX1) (N := 6) hx hb hts in_X1 tyX1 tyX1_ok hown (hts _ q185) (hts _ q186) (hts _ q27) hK hP hD hS hA rfl (fun j hj => by rcases (show j = 0 ∨ j = 1 ∨ j = 2 ∨ j = 3 ∨ j = 4 ∨ j = 5 by omega) with rfl | rfl | rfl | rfl | rfl | rfl <;> rfl) (Nat.le_of_ble_eq_true rfl) (Nat.le_of_ble_eq_true rfl) dL_law_8 (fun qy H hP hD hS => ?_)
  have hP : va_P D vwCl (xwu ax gx ((0 : Nat), zf, zf, zf, zf, zf, zf, zf, (0 : Int), (0 : Int), zf) ++ [(qy, .inr (1, fs0Y))]) H := hP
  have hD : va_D (fun q : Nat => s.heap.size ≤ q) (xwu ax gx ((0 : Nat), zf, zf, zf, zf, zf, zf, zf, (0 : Int), (0 : Int), zf) ++ [(qy, .inr (1, fs0Y))]) := hD
  refine lv_dup hx hb dL_law_11 rfl ?_
  have hPc := hP.sub (ws' := [(qy, .inr (1, fs0Y))]) [9] rfl
  have hDc := hD.sub (ws' := [(qy, .inr (1, fs0Y))]) [9] (by decide) rfl
  have hKc := hK
  have hFc := va_free (wc := [(qy, .inr (1, fs0Y))]) hD hS hA [9] rfl
  refine va_callv (va_runI (As := []) (rest := [.ref qy]) ⟨hx, hb, hml, hown, hts⟩ (mY_init l D qy H.size) (cwI 0 hts (lw_meth q189) rfl rfl rfl (hts _ q27) (hts _ q187) (hts _ q188) rfl (by decide +kernel) ⟨Nat.le_of_ble_eq_true rfl, Nat.le_of_ble_eq_true rfl⟩) ⟨fun a U g mk q => by obtain ⟨q0, q1, qP, qK, qD⟩ := q; exact ⟨q0, q1, qP, va_K.moved (u := U) (U := U.calling g mk a) (Vm.Alike.refl U.vm) qK, qD⟩, fun U hU hW => ⟨rfl, by rw [hU], by rw [hU]; exact hPc, va_K.moved hW.alike hKc, hDc.weaken (fun _ _ _ _ => trivial)⟩⟩ rfl rfl hl.1 rfl (lv_room (Nat.le_of_ble_eq_true rfl)) dL_law_12 ⟨Nat.le_of_ble_eq_true rfl, Nat.le_of_ble_eq_true rfl⟩) hS (fun q _ h => hFc q h) hFc (fun u t H1 locs ht hvm hw hB hz1 hk1 hS => ?_)
  obtain ⟨ay, gy⟩ := u
  have hw : ay 0 = qy := hw
  subst hw
  obtain ⟨hP1, hK1, hD1⟩ := hB
  rw [ht] at hP1
  have hKy : va_K D vwCl (yT gy) s := va_K.moved hvm.symm hK1
  obtain ⟨hP, hD⟩ := va_join (wr := xwu ax gx ((0 : Nat), zf, zf, zf, zf, zf, zf, zf, (0 : Int), (0 : Int), zf)) (w1 := ywu ay gy (zf, zf, (0 : Int), (0 : Int), zf, zf)) hP hD [9] [0, 1, 2, 3, 4, 5, 6, 7, 8] rfl rfl (by decide) (by decide) hk1 hFc hP1 hD1
  generalize H1 = H at hP hS ⊢
  refine lv_astore_n (lv' := [(2, .ref (ay 0)), (1, .ref (ax 0)), (0, .ref b)]) hx hb dL_law_15 rfl hl (by decide) rfl (fun ls hl => ?_)
  refine lv_iconst (v := iI 0) hx hb dL_law_16 rfl ?_
  refine lv_istore_n (lv' := [(3, .int (iI 0)), (2, .ref (ay 0)), (1, .ref (ax 0)), (0, .ref b)]) hx hb dL_law_17 rfl hl (by decide) rfl (fun ls hl => ?_)
  have wx : xAu D ax gx (fun q : Nat => s.heap.size ≤ q) s s.heap ((0 : Nat), zf, zf, zf, zf, zf, zf, zf, (0 : Int), (0 : Int), zf) H locs := ⟨hKx, hP.sub [0, 1, 2, 3, 4, 5, 6, 7, 8] rfl, hD.sub [0, 1, 2, 3, 4, 5, 6, 7, 8] (by decide) rfl, hS, hA⟩
  have wy : yAu D ay gy (fun q : Nat => s.heap.size ≤ q) s s.heap (zf, zf, (0 : Int), (0 : Int), zf, zf) H locs := ⟨hKy, hP.sub [9, 10, 11, 12, 13] rfl, hD.sub [9, 10, 11, 12, 13] (by decide) rfl, hS, hA⟩
  exact law_loop l ⟨hx, hb, hml, hown, hts⟩ hr hlocks (lDis_of hD) hX hbl hL ⟨Nat.le_of_ble_eq_true rfl, Nat.le_of_ble_eq_true rfl⟩ 400 H locs ls ⟨0, rfl, by omega, ⟨((0 : Nat), zf, zf, zf, zf, zf, zf, zf, (0 : Int), (0 : Int), zf), (zf, zf, (0 : Int), (0 : Int), zf, zf), lawC_0, wx, wy⟩, hl⟩
end
section
/-! the claim out of the law (the skeleton's end) -/
set_option maxHeartbeats 4000000 in
theorem lw_walk (l : Launch) (b : Addr) (xs : List Int32) : MetFree l x (headSpec (Jvm.Cond.code x code maxLocals ret :: tables_1) room_1) (lw_P b xs) (fun _ _ _ _ _ => True) lw_Q := by
  refine MetFree.of_bodyS (code := code) (maxLocals := maxLocals) (ret := ret) (by decide) ?_ ?_
  · intro args s m h hn
    obtain ⟨meth, c, h1, h2, h3, h4, h5, h6, -, -⟩ := Cond.code_spec hn (atoms_spec (ws := Jvm.Cond.code x code maxLocals ret :: tables_1) h _ List.mem_cons_self)
    exact ⟨meth, c, h1, h2, h3, h4, h5, h6⟩
  · intro p e s m args below meth c s₁ B hml0 hP _
    obtain ⟨rfl, hx, hbd, hgv⟩ := hP
    obtain ⟨scr, harrAt, hlist, hof, hsmall⟩ := hx
    obtain ⟨hcb, hkn, -, -⟩ := State.arrayAt?_spec harrAt
    have hown : s.vm.findClass R_law = some m.cls := findClass_of_methodNamed B.named
    have hts0 : ∀ c ∈ (Jvm.Cond.code x code maxLocals ret :: tables_1), c.before #[Value.ref b] s = true := atoms_spec (ws := Jvm.Cond.code x code maxLocals ret :: tables_1) B.pre
    have hts : ∀ w ∈ lw_tbl, w.before #[Value.ref b] s = true := k2_hts_sels lw_privs (fun w hw => hts0 w (List.mem_cons_of_mem _ hw)) lw_privs_ok
    have hml : c.maxLocals = 4 := B.maxLocals_eq (hts0 _ List.mem_cons_self)
    have X₀ : Stand p l e room_1 s m #[Value.ref b] below meth c s₁ [] 0 0 := Stand.of_body B
    have hh0 : s₁.heap = s.heap := by rw [B.state]; rfl
    have hsz : scr.slots.size = xs.length := by rw [← Array.length_toList, hlist, List.length_map]
    have hval : ∀ j : Nat, j < xs.length → scr.slots[j]? = some (.int (xs.getD j 0)) := fun j hj => by
      rw [← Array.getElem?_toList, hlist]
      simp [hj]
    have hbl : b < s.heap.size := (Array.getElem?_eq_some_iff.mp hcb).1
    have hX : va_X b xs.length (fun j => xs.getD j 0) s s.heap := ⟨scr, hcb, hof, hkn, hsz, hval⟩
    have K : W p l e room_1 s m #[Value.ref b] below meth c s₁.heap [] 0 0 (lw_Z below #[Value.ref b] s) (entryFrame m ([Value.ref b] : List Value).toArray 4) := by
      rw [hh0]
      exact whole_start l hbd ⟨B.exec, B.bytes, B.returns, hml, hown, hts, hX, hbl, B.notSynchronized, hgv⟩
    obtain ⟨t, a1, o, b1, b2, b3⟩ := K s₁ rfl X₀
    exact ⟨t, o, a1, b1, b2, b3⟩
theorem lw_pre_spec {args : Array Value} {s : State} (h : (Jvm.Cond.and given_1 narrow_1).before args s = true) (hr : rest_1_c.before args s = true) : ∃ (b : Addr) (xs : List Int32), lw_P b xs args s := by
  have hs := flat_of_before _ h
  have hq := flat_of_before _ hr
  have hc : (Cond.count 1).before args s = true := hs _ (by decide +kernel)
  have harr : (Cond.arrayOf (.arg 0) .int).before args s = true := hs _ (by decide +kernel)
  have hle : (Cond.le (.length (.arg 0)) (.int 320)).before args s = true := hs _ (by decide +kernel)
  have hlen : (Cond.isInt (.length (.arg 0))).before args s = true := hq _ (by decide +kernel)
  have hall : (Cond.all (.arg 0) (.isInt (.elem (.arg 0) (.index 0)))).before args s = true := hq _ (by decide +kernel)
  obtain ⟨b, xs, hb, hx⟩ := State.ints_of_pre rfl harr hlen hall
  have hsm : xs.length < 2 ^ 31 := hx.choose_spec.2.2.2
  have hev : (Term.length (.arg 0)).eval args s none [] s = some (.int xs.length.toInt32) := hx.length_eval hb
  have hv := Cond.le_ints hev (show (Term.int 320).eval args s none [] s = some (.int 320) from rfl)
  have hd : xs.length.toInt32 ≤ 320 := by
    simpa [Cond.before, Cond.holds, hv] using hle
  have hN : xs.length ≤ 320 := (Int32.ofNat_le_ofNat hsm (by decide)).mp (show Int32.ofNat xs.length ≤ Int32.ofNat 320 from hd)
  exact ⟨b, xs, Cond.one_arg hc (show args[0]? = some (.ref b) from hb), hx, hN, h⟩
theorem lw_comes (l : Launch) : Comes l x (Jvm.Cond.code x code maxLocals ret :: tables_1) room_1 (fun tb e args s => Calls_1 tb e args s ∧ rest_1 tb e args s ∧ Pre_1 tb e args s)
    (fun _ _ args s o t => lw_Q args s o t) := by
  intro p e ha hc hk s m args below hf hfit hheap happ hpre
  obtain ⟨b, xs, hP⟩ := lw_pre_spec hpre.2.2 hpre.2.1
  obtain ⟨k, o, h1, h2, h3, hQ⟩ := lw_walk l b xs p e ha hc hk s m args below hf ((Spec.applies_iff_loose hf).mp happ).1 hP trivial
  exact ⟨k, o, h1, h2, h3, hQ⟩
theorem lw_frame {s t : State} {o : Outcome} {args : Array Value} (h : Framed s o t [] 600000 7290000) :
    Framed s o t (fieldLocs frame_1_writes args s ++ arrayLocs frame_1_arrays args s ++ staticLocs frame_1_statics s) 600000 7290000 := h
theorem lw_limb (L : Cond) (hL : ∀ (args : Array Value) (s t : State), L.after args s (.returned (some (.int 1))) t = true) :
    ArmFor flags0 classFile x code maxLocals ret World_1 tables_1 room_1 Calls_1 rest_1 Pre_1
      (fun tb e a s o t => postC L tb e a s o t ∧ Framed s o t (fieldLocs frame_1_writes a s ++ arrayLocs frame_1_arrays a s ++ staticLocs frame_1_statics s) 600000 7290000) := by
  intro l _ _ _ p e ha hc hk s m args below hf hfit hheap happ hpre
  obtain ⟨k, o, h1, h2, h3, rfl, hF⟩ := lw_comes l p e ha hc hk s m args below hf hfit hheap happ hpre
  exact ⟨k, _, h1, h2, h3, hL args s _, lw_frame hF⟩
theorem i_vc : Claimed_1_1 ∧ Claimed_1_2 := ⟨lw_limb limb_1_1 (fun args s t => by simp [limb_1_1, Cond.after, Cond.holds, Cond.value]), lw_limb limb_1_2 (fun args s t => Cond.after_iff.mpr (by
  first | (rw [show limb_1_2 = Cond.eq .result (.int 1) from rfl, Cond.eq_ints (x := 1) (y := 1) rfl rfl]; simp; done) | (simp [limb_1_2, Cond.value, Term.eval]; done)))⟩
end
