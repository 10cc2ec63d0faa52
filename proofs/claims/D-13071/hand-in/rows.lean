section
/-! finite sums -/
def hr_sm : Nat → (Nat → Nat) → Nat
  | 0, _ => 0
  | n + 1, f => hr_sm n f + f n
theorem hr_sm_cg {n : Nat} {f g : Nat → Nat} (h : ∀ i, i < n → f i = g i) : hr_sm n f = hr_sm n g := by
  induction n with
  | zero => rfl
  | succ n ih =>
    show hr_sm n f + f n = hr_sm n g + g n
    rw [ih (fun i hi => h i (by omega)), h n (by omega)]
theorem hr_sm_app (a b : Nat) (f : Nat → Nat) : hr_sm (a + b) f = hr_sm a f + hr_sm b (fun i => f (a + i)) := by
  induction b with
  | zero => rfl
  | succ b ih =>
    show hr_sm (a + b) f + f (a + b) = hr_sm a f + (hr_sm b (fun i => f (a + i)) + f (a + b))
    rw [ih]; omega
theorem hr_sm_add (n : Nat) (f g : Nat → Nat) : hr_sm n (fun i => f i + g i) = hr_sm n f + hr_sm n g := by
  induction n with
  | zero => rfl
  | succ n ih =>
    show hr_sm n (fun i => f i + g i) + (f n + g n) = (hr_sm n f + f n) + (hr_sm n g + g n)
    rw [ih]; omega
theorem hr_sm_z {n : Nat} {f : Nat → Nat} (h : ∀ i, i < n → f i = 0) : hr_sm n f = 0 := by
  induction n with
  | zero => rfl
  | succ n ih =>
    show hr_sm n f + f n = 0
    rw [ih (fun i hi => h i (by omega)), h n (by omega)]
theorem hr_sm_ge {n : Nat} {f : Nat → Nat} {i : Nat} (hi : i < n) : f i ≤ hr_sm n f := by
  induction n with
  | zero => omega
  | succ n ih =>
    show f i ≤ hr_sm n f + f n
    rcases Nat.lt_or_ge i n with z | z
    · have := ih z; omega
    · have e : i = n := by omega
      rw [e]; omega
theorem hr_sm_pos {n : Nat} {f : Nat → Nat} (h : 0 < hr_sm n f) : ∃ i, i < n ∧ 0 < f i := by
  induction n with
  | zero => exact absurd h (Nat.lt_irrefl 0)
  | succ n ih =>
    have h' : 0 < hr_sm n f + f n := h
    rcases Nat.eq_zero_or_pos (f n) with z | z
    · obtain ⟨i, hi, q⟩ := ih (by omega)
      exact ⟨i, by omega, q⟩
    · exact ⟨n, by omega, z⟩
theorem hr_sm_lt {n p : Nat} (h : p ≤ n) : hr_sm n (fun i => if i < p then 1 else 0) = p := by
  obtain ⟨k, rfl⟩ := Nat.le.dest h
  rw [hr_sm_app, hr_sm_z (n := k) (fun i _ => if_neg (by omega))]
  have : ∀ p q : Nat, q ≤ p → hr_sm q (fun i => if i < p then 1 else 0) = q := by
    intro p q
    induction q with
    | zero => intro _; rfl
    | succ q ih =>
      intro hq
      show hr_sm q (fun i => if i < p then 1 else 0) + (if q < p then 1 else 0) = q + 1
      rw [ih (by omega), if_pos (by omega)]
  rw [this p p (Nat.le_refl p)]
  rfl
theorem hr_sm_ind {n r : Nat} (h : r < n) : hr_sm n (fun i => if i = r then 1 else 0) = 1 := by
  induction n with
  | zero => omega
  | succ n ih =>
    show hr_sm n (fun i => if i = r then 1 else 0) + (if n = r then 1 else 0) = 1
    rcases Nat.lt_or_ge r n with z | z
    · rw [ih z, if_neg (by omega)]
    · rw [hr_sm_z (fun i hi => if_neg (by omega)), if_pos (by omega)]
theorem hr_sm_swap (n k : Nat) (g : Nat → Nat → Nat) : hr_sm n (fun i => hr_sm k (fun j => g i j)) = hr_sm k (fun j => hr_sm n (fun i => g i j)) := by
  induction n with
  | zero =>
    show 0 = _
    exact (hr_sm_z (fun _ _ => rfl)).symm
  | succ n ih =>
    show hr_sm n (fun i => hr_sm k (fun j => g i j)) + hr_sm k (fun j => g n j) = hr_sm k (fun j => hr_sm n (fun i => g i j) + g n j)
    rw [ih, hr_sm_add]
/-- all pairs, by the lower triangle -/
theorem hr_sm_tri (n : Nat) (g : Nat → Nat → Nat) (h0 : ∀ a, a < n → g a a = 0) : hr_sm n (fun a => hr_sm n (fun b => g a b)) = hr_sm n (fun a => hr_sm a (fun b => g a b + g b a)) := by
  induction n with
  | zero => rfl
  | succ n ih =>
    show hr_sm n (fun a => hr_sm n (fun b => g a b) + g a n) + (hr_sm n (fun b => g n b) + g n n) = hr_sm n (fun a => hr_sm a (fun b => g a b + g b a)) + hr_sm n (fun b => g n b + g b n)
    have e : hr_sm n (g n) = hr_sm n (fun b => g n b) := rfl
    rw [hr_sm_add, hr_sm_add, ih (fun a ha => h0 a (by omega)), h0 n (by omega)]
    omega
/-! a permutation, by its sums -/
def hr_P (m : Nat) (o : Nat → Nat) : Prop := ∀ f : Nat → Nat, hr_sm m (fun i => f (o i)) = hr_sm m f
theorem hr_P_lt {m : Nat} {o : Nat → Nat} (h : hr_P m o) {i : Nat} (hi : i < m) : o i < m := by
  have e : hr_sm m (fun i => if o i < m then 0 else 1) = hr_sm m (fun r => if r < m then 0 else 1) := h (fun r => if r < m then 0 else 1)
  rw [hr_sm_z (f := fun r => if r < m then 0 else 1) (fun i hi => if_pos hi)] at e
  have g : (if o i < m then 0 else 1) ≤ hr_sm m (fun i => if o i < m then 0 else 1) := hr_sm_ge (f := fun i => if o i < m then 0 else 1) hi
  rw [e] at g
  rcases Nat.lt_or_ge (o i) m with q | q
  · exact q
  · rw [if_neg (by omega)] at g
    omega
theorem hr_P_ex {m : Nat} {o : Nat → Nat} (h : hr_P m o) {r : Nat} (hr : r < m) : ∃ i, i < m ∧ o i = r := by
  have e : hr_sm m (fun i => if o i = r then 1 else 0) = hr_sm m (fun i => if i = r then 1 else 0) := h (fun i => if i = r then 1 else 0)
  rw [hr_sm_ind hr] at e
  obtain ⟨i, hi, q⟩ := hr_sm_pos (f := fun i => if o i = r then 1 else 0) (by rw [e]; exact Nat.one_pos)
  refine ⟨i, hi, ?_⟩
  have q' : 0 < (if o i = r then 1 else 0) := q
  by_cases z : o i = r
  · exact z
  · rw [if_neg z] at q'; omega
/-! since when two rows agree before column c -/
def hr_s (x y : Nat) : Nat → Nat
  | 0 => 0
  | c + 1 => if x.testBit c = y.testBit c then hr_s x y c else c + 1
theorem hr_s_eq {x y c : Nat} (h : x.testBit c = y.testBit c) : hr_s x y (c + 1) = hr_s x y c := if_pos h
theorem hr_s_ne {x y c : Nat} (h : ¬ x.testBit c = y.testBit c) : hr_s x y (c + 1) = c + 1 := if_neg h
theorem hr_s_le (x y c : Nat) : hr_s x y c ≤ c := by
  induction c with
  | zero => exact Nat.le_refl 0
  | succ c ih =>
    by_cases h : x.testBit c = y.testBit c
    · rw [hr_s_eq h]; omega
    · rw [hr_s_ne h]; omega
theorem hr_s_self (x c : Nat) : hr_s x x c = 0 := by
  induction c with
  | zero => rfl
  | succ c ih => rw [hr_s_eq rfl, ih]
theorem hr_s_comm (x y c : Nat) : hr_s x y c = hr_s y x c := by
  induction c with
  | zero => rfl
  | succ c ih =>
    by_cases h : x.testBit c = y.testBit c
    · rw [hr_s_eq h, hr_s_eq h.symm, ih]
    · rw [hr_s_ne h, hr_s_ne (fun z => h z.symm)]
theorem hr_s_iff (x y k c : Nat) : hr_s x y c ≤ k ↔ ∀ i, k ≤ i → i < c → x.testBit i = y.testBit i := by
  induction c with
  | zero => exact ⟨fun _ i _ h => absurd h (by omega), fun _ => Nat.zero_le k⟩
  | succ c ih =>
    by_cases h : x.testBit c = y.testBit c
    · rw [hr_s_eq h, ih]
      constructor
      · intro q i h1 h2
        rcases Nat.lt_or_ge i c with z | z
        · exact q i h1 z
        · have e : i = c := by omega
          rw [e]; exact h
      · intro q i h1 h2
        exact q i h1 (by omega)
    · rw [hr_s_ne h]
      constructor
      · intro q i h1 h2
        exact absurd h1 (by omega)
      · intro q
        rcases Nat.lt_or_ge c k with z | z
        · exact z
        · exact absurd (q c z (by omega)) h
theorem hr_ag (x y k c : Nat) : (∀ i, k ≤ i → i < c → x.testBit i = y.testBit i) ↔ x % 2 ^ c / 2 ^ k = y % 2 ^ c / 2 ^ k := by
  constructor
  · intro h
    apply Nat.eq_of_testBit_eq
    intro i
    rw [Nat.testBit_div_two_pow, Nat.testBit_div_two_pow, Nat.testBit_mod_two_pow, Nat.testBit_mod_two_pow]
    by_cases q : i + k < c
    · rw [h (i + k) (by omega) q]
    · rw [decide_eq_false q, Bool.false_and, Bool.false_and]
  · intro h i h1 h2
    have e : (x % 2 ^ c / 2 ^ k).testBit (i - k) = (y % 2 ^ c / 2 ^ k).testBit (i - k) := by rw [h]
    rw [Nat.testBit_div_two_pow, Nat.testBit_div_two_pow, Nat.testBit_mod_two_pow, Nat.testBit_mod_two_pow, show i - k + k = i by omega, decide_eq_true h2, Bool.true_and, Bool.true_and] at e
    exact e
theorem hr_s_div (x y k c : Nat) : hr_s x y c ≤ k ↔ x % 2 ^ c / 2 ^ k = y % 2 ^ c / 2 ^ k := (hr_s_iff x y k c).trans (hr_ag x y k c)
theorem hr_s_3 {x y z c : Nat} (h1 : x % 2 ^ c ≤ y % 2 ^ c) (h2 : y % 2 ^ c ≤ z % 2 ^ c) : max (hr_s x y c) (hr_s y z c) = hr_s x z c := by
  have key : ∀ k, hr_s x z c ≤ k ↔ (hr_s x y c ≤ k ∧ hr_s y z c ≤ k) := by
    intro k
    rw [hr_s_div, hr_s_div, hr_s_div]
    have g1 := Nat.div_le_div_right (c := 2 ^ k) h1
    have g2 := Nat.div_le_div_right (c := 2 ^ k) h2
    omega
  have a := (key (hr_s x z c)).mp (Nat.le_refl _)
  have b := (key (max (hr_s x y c) (hr_s y z c))).mpr ⟨Nat.le_max_left _ _, Nat.le_max_right _ _⟩
  omega
/-! the order for column c: by the key -/
def hr_K (R : Nat → Nat) (c r : Nat) : Nat := 8 * (R r % 2 ^ c) + r
theorem hr_K_le {R : Nat → Nat} {c a b : Nat} (hb : b < 8) (h : hr_K R c a ≤ hr_K R c b) : R a % 2 ^ c ≤ R b % 2 ^ c := by
  unfold hr_K at h
  omega
theorem hr_K_bd {R : Nat → Nat} {c a : Nat} (ha : a < 8) : hr_K R c a < 8 * 2 ^ c := by
  have := Nat.mod_lt (R a) (Nat.two_pow_pos c)
  unfold hr_K
  omega
theorem hr_K_0 {R : Nat → Nat} {c r : Nat} (h : (R r).testBit c = false) : hr_K R (c + 1) r = hr_K R c r := by
  have e := Nat.toNat_testBit (R r) c
  rw [h] at e
  have e2 : R r / 2 ^ c % 2 = 0 := e.symm
  unfold hr_K
  rw [Nat.mod_pow_succ, e2, Nat.mul_zero, Nat.add_zero]
theorem hr_K_1 {R : Nat → Nat} {c r : Nat} (h : (R r).testBit c = true) : hr_K R (c + 1) r = hr_K R c r + 8 * 2 ^ c := by
  have e := Nat.toNat_testBit (R r) c
  rw [h] at e
  have e2 : R r / 2 ^ c % 2 = 1 := e.symm
  unfold hr_K
  rw [Nat.mod_pow_succ, e2, Nat.mul_one]
  omega
/-- the order and the begins for column c -/
def hr_C (m : Nat) (R : Nat → Nat) (c : Nat) (o d : Nat → Nat) : Prop :=
  hr_P m o ∧ (∀ i j, i < j → j < m → hr_K R c (o i) < hr_K R c (o j)) ∧ (∀ i, i < m → d i ≤ c) ∧ (∀ i, i + 1 < m → d (i + 1) = hr_s (R (o i)) (R (o (i + 1))) c)
theorem hr_C_0 (m : Nat) (R : Nat → Nat) : hr_C m R 0 (fun i => i) (fun _ => 0) := by
  refine ⟨fun f => rfl, fun i j h _ => ?_, fun _ _ => Nat.le_refl 0, fun _ _ => rfl⟩
  show 8 * (R i % 2 ^ 0) + i < 8 * (R j % 2 ^ 0) + j
  rw [Nat.pow_zero, Nat.mod_one, Nat.mod_one]
  omega
theorem hr_C_mono {m : Nat} {R : Nat → Nat} {c : Nat} {o d : Nat → Nat} (hm : m ≤ 8) (h : hr_C m R c o d) {i j : Nat} (hij : i ≤ j) (hj : j < m) : R (o i) % 2 ^ c ≤ R (o j) % 2 ^ c := by
  have hb := hr_P_lt h.1 hj
  rcases Nat.lt_or_ge i j with z | z
  · exact hr_K_le (by omega) (Nat.le_of_lt (h.2.1 i j z hj))
  · have e : i = j := by omega
    rw [e]
    exact Nat.le_refl _
theorem hr_C_st {m : Nat} {R : Nat → Nat} {c : Nat} {o d : Nat → Nat} (hm : m ≤ 8) (h : hr_C m R c o d) {i j : Nat} (hij : i ≤ j) (hj : j + 1 < m) : max (hr_s (R (o i)) (R (o j)) c) (d (j + 1)) = hr_s (R (o i)) (R (o (j + 1))) c := by
  rw [h.2.2.2 j hj]
  exact hr_s_3 (hr_C_mono hm h hij (by omega)) (hr_C_mono hm h (by omega) hj)
theorem hr_C_inj {m : Nat} {R : Nat → Nat} {c : Nat} {o d : Nat → Nat} (h : hr_C m R c o d) {i j : Nat} (hi : i < m) (hj : j < m) (e : o i = o j) : i = j := by
  rcases Nat.lt_trichotomy i j with z | z | z
  · have := h.2.1 i j z hj
    rw [e] at this
    omega
  · exact z
  · have := h.2.1 j i z hi
    rw [e] at this
    omega
/-! a place written -/
def hr_up (f : Nat → Nat) (k v : Nat) : Nat → Nat := fun j => if j = k then v else f j
theorem hr_us {f : Nat → Nat} {k v : Nat} : hr_up f k v k = v := if_pos rfl
theorem hr_un {f : Nat → Nat} {k v j : Nat} (h : ¬ j = k) : hr_up f k v j = f j := if_neg h
/-- one kind of rows (those with bit b in column c) on the way through the order, behind i rows -/
def hr_I (R : Nat → Nat) (c : Nat) (o : Nat → Nat) (b : Bool) (i Z sz : Nat) (zo zd : Nat → Nat) : Prop :=
  (∀ a, a < Z → (∃ p, p < i ∧ zo a = o p) ∧ (R (zo a)).testBit c = b) ∧
  (∀ a a', a < a' → a' < Z → hr_K R c (zo a) < hr_K R c (zo a')) ∧
  (∀ a, a < Z → zd a ≤ c + 1) ∧
  (∀ a, a + 1 < Z → zd (a + 1) = hr_s (R (zo a)) (R (zo (a + 1))) c) ∧
  (Z = 0 → sz = c + 1) ∧
  (0 < Z → zd 0 = c + 1) ∧
  (0 < Z → ∃ p, p < i ∧ zo (Z - 1) = o p ∧ sz = hr_s (R (o p)) (R (o (i - 1))) c)
theorem hr_I_0 (R : Nat → Nat) (c : Nat) (o : Nat → Nat) (b : Bool) (zo zd : Nat → Nat) : hr_I R c o b 0 0 (c + 1) zo zd :=
  ⟨fun a h => absurd h (by omega), fun a a' _ h => absurd h (by omega), fun a h => absurd h (by omega), fun a h => absurd h (by omega), fun _ => rfl, fun h => absurd h (by omega), fun h => absurd h (by omega)⟩
theorem hr_I_sz {m : Nat} {R : Nat → Nat} {c : Nat} {o d : Nat → Nat} {b : Bool} {i Z sz : Nat} {zo zd : Nat → Nat} (hm : m ≤ 8) (hC : hr_C m R c o d) (hi : i < m) (h : hr_I R c o b i Z sz zo zd) :
    (Z = 0 → max sz (d i) = c + 1) ∧ (0 < Z → ∃ p, p < i ∧ zo (Z - 1) = o p ∧ max sz (d i) = hr_s (R (o p)) (R (o i)) c) := by
  obtain ⟨h1, h2, h3, h4, h5, h6, h7⟩ := h
  constructor
  · intro z
    have := hC.2.2.1 i hi
    rw [h5 z]
    omega
  · intro z
    obtain ⟨p, hp, e, e2⟩ := h7 z
    refine ⟨p, hp, e, ?_⟩
    have := hr_C_st hm hC (i := p) (j := i - 1) (by omega) (by omega)
    rw [show i - 1 + 1 = i by omega] at this
    rw [e2]
    exact this
theorem hr_I_skip {m : Nat} {R : Nat → Nat} {c : Nat} {o d : Nat → Nat} {b : Bool} {i Z sz : Nat} {zo zd : Nat → Nat} (hm : m ≤ 8) (hC : hr_C m R c o d) (hi : i < m) (h : hr_I R c o b i Z sz zo zd) :
    hr_I R c o b (i + 1) Z (max sz (d i)) zo zd := by
  obtain ⟨s1, s2⟩ := hr_I_sz hm hC hi h
  obtain ⟨h1, h2, h3, h4, h5, h6, h7⟩ := h
  refine ⟨fun a ha => ?_, h2, h3, h4, s1, h6, fun z => ?_⟩
  · obtain ⟨⟨p, hp, e⟩, q⟩ := h1 a ha
    exact ⟨⟨p, by omega, e⟩, q⟩
  · obtain ⟨p, hp, e, e2⟩ := s2 z
    exact ⟨p, by omega, e, e2⟩
theorem hr_I_add {m : Nat} {R : Nat → Nat} {c : Nat} {o d : Nat → Nat} {b : Bool} {i Z sz : Nat} {zo zd : Nat → Nat} (hm : m ≤ 8) (hC : hr_C m R c o d) (hi : i < m) (h : hr_I R c o b i Z sz zo zd) (hb : (R (o i)).testBit c = b) :
    hr_I R c o b (i + 1) (Z + 1) 0 (hr_up zo Z (o i)) (hr_up zd Z (max sz (d i))) := by
  obtain ⟨s1, s2⟩ := hr_I_sz hm hC hi h
  obtain ⟨h1, h2, h3, h4, h5, h6, h7⟩ := h
  refine ⟨fun a ha => ?_, fun a a' haa ha => ?_, fun a ha => ?_, fun a ha => ?_, fun z => absurd z (by omega), fun _ => ?_, fun _ => ⟨i, by omega, ?_, ?_⟩⟩
  · by_cases e : a = Z
    · rw [e, hr_us]
      exact ⟨⟨i, by omega, rfl⟩, hb⟩
    · rw [hr_un e]
      obtain ⟨⟨p, hp, e2⟩, q⟩ := h1 a (by omega)
      exact ⟨⟨p, by omega, e2⟩, q⟩
  · rw [hr_un (show ¬ a = Z by omega)]
    by_cases e : a' = Z
    · rw [e, hr_us]
      obtain ⟨⟨p, hp, e2⟩, q⟩ := h1 a (by omega)
      rw [e2]
      exact hC.2.1 p i hp hi
    · rw [hr_un e]
      exact h2 a a' haa (by omega)
  · by_cases e : a = Z
    · rw [e, hr_us]
      rcases Nat.eq_zero_or_pos Z with z | z
      · rw [s1 z]
        exact Nat.le_refl _
      · obtain ⟨p, hp, e, e2⟩ := s2 z
        have := hr_s_le (R (o p)) (R (o i)) c
        rw [e2]
        omega
    · rw [hr_un e]
      exact h3 a (by omega)
  · rw [hr_un (show ¬ a = Z by omega)]
    by_cases e : a + 1 = Z
    · rw [e, hr_us, hr_us]
      obtain ⟨p, hp, e3, e2⟩ := s2 (by omega)
      rw [e2, show a = Z - 1 by omega, e3]
    · rw [hr_un e, hr_un e]
      exact h4 a (by omega)
  · by_cases e : 0 = Z
    · rw [← e, hr_us]
      exact s1 e.symm
    · rw [hr_un e]
      exact h6 (by omega)
  · rw [Nat.add_sub_cancel, hr_us]
  · rw [Nat.add_sub_cancel, hr_s_self]
/-- the two kinds one behind the other -/
def hr_j (Z : Nat) (zo no : Nat → Nat) : Nat → Nat := fun i => if i < Z then zo i else no (i - Z)
theorem hr_j_lo {Z : Nat} {zo no : Nat → Nat} {i : Nat} (h : i < Z) : hr_j Z zo no i = zo i := if_pos h
theorem hr_j_hi {Z : Nat} {zo no : Nat → Nat} {i : Nat} (h : Z ≤ i) : hr_j Z zo no i = no (i - Z) := if_neg (by omega)
theorem hr_C_step {m : Nat} {R : Nat → Nat} {c : Nat} {o d : Nat → Nat} {Z M sz so : Nat} {zo zd no nd : Nat → Nat} (hm : m ≤ 8) (hC : hr_C m R c o d) (hz : hr_I R c o false m Z sz zo zd) (hn : hr_I R c o true m M so no nd) (e : Z + M = m)
    (hs : ∀ f : Nat → Nat, hr_sm Z (fun i => f (zo i)) + hr_sm M (fun i => f (no i)) = hr_sm m (fun i => f (o i))) : hr_C m R (c + 1) (hr_j Z zo no) (hr_j Z zd nd) := by
  have hP : hr_P m (hr_j Z zo no) := by
    intro f
    rw [← hC.1 f, ← hs f, ← e, hr_sm_app]
    rw [hr_sm_cg (g := fun i => f (zo i)) (fun i hi => by rw [hr_j_lo hi]), hr_sm_cg (n := M) (g := fun i => f (no i)) (fun i hi => by rw [hr_j_hi (Nat.le_add_right Z i), Nat.add_sub_cancel_left])]
  obtain ⟨z1, z2, z3, z4, z5, z6, z7⟩ := hz
  obtain ⟨n1, n2, n3, n4, n5, n6, n7⟩ := hn
  refine ⟨hP, fun i j hij hj => ?_, fun i hi => ?_, fun i hi => ?_⟩
  · have bi := hr_P_lt hP (show i < m by omega)
    rcases Nat.lt_or_ge i Z with q | q
    · rw [hr_j_lo q] at bi ⊢
      rw [hr_K_0 (z1 i q).2]
      rcases Nat.lt_or_ge j Z with w | w
      · rw [hr_j_lo w, hr_K_0 (z1 j w).2]
        exact z2 i j hij w
      · rw [hr_j_hi w, hr_K_1 (n1 (j - Z) (by omega)).2]
        have := hr_K_bd (R := R) (c := c) (show zo i < 8 by omega)
        omega
    · rw [hr_j_hi q, hr_j_hi (show Z ≤ j by omega), hr_K_1 (n1 (i - Z) (by omega)).2, hr_K_1 (n1 (j - Z) (by omega)).2]
      have := n2 (i - Z) (j - Z) (by omega) (by omega)
      omega
  · rcases Nat.lt_or_ge i Z with q | q
    · rw [hr_j_lo q]
      exact z3 i q
    · rw [hr_j_hi q]
      exact n3 (i - Z) (by omega)
  · rcases Nat.lt_trichotomy (i + 1) Z with q | q | q
    · rw [hr_j_lo q, hr_j_lo q, hr_j_lo (show i < Z by omega), hr_s_eq (by rw [(z1 i (by omega)).2, (z1 (i + 1) q).2])]
      exact z4 i q
    · rw [hr_j_hi (show Z ≤ i + 1 by omega), hr_j_hi (show Z ≤ i + 1 by omega), hr_j_lo (show i < Z by omega), show i + 1 - Z = 0 by omega, hr_s_ne (by rw [(z1 i (by omega)).2, (n1 0 (by omega)).2]; decide)]
      exact n6 (by omega)
    · rw [hr_j_hi (show Z ≤ i + 1 by omega), hr_j_hi (show Z ≤ i + 1 by omega), hr_j_hi (show Z ≤ i by omega), show i + 1 - Z = i - Z + 1 by omega, hr_s_eq (by rw [(n1 (i - Z) (by omega)).2, (n1 (i - Z + 1) (by omega)).2])]
      exact n4 (i - Z) (by omega)
end
section
/-! numbers as ints: bits and masks -/
theorem hr_sl : ∀ n, n < 32 → ((nI n &&& 31).toBitVec.smod 32).toNat = n := by decide +kernel
theorem hr_xor (a b : Nat) : nI a ^^^ nI b = nI (a ^^^ b) := by
  apply Int32.toBitVec_inj.1
  show BitVec.ofNat 32 a ^^^ BitVec.ofNat 32 b = BitVec.ofNat 32 (a ^^^ b)
  apply BitVec.eq_of_getLsbD_eq
  intro i hi
  simp [hi]
theorem hr_shr {v c : Nat} (hv : v < 2 ^ 31) (hc : c < 32) : nI v >>> (nI c &&& 31) = nI (v / 2 ^ c) := pk_shrN hv _ c (hr_sl c hc)
theorem hr_mod (v k : Nat) (hv : v < 2 ^ 32) (hk : k ≤ 31) : nI v &&& nI (2 ^ k - 1) = nI (v % 2 ^ k) := by
  have h1 : 2 ^ k ≤ 2 ^ 31 := Nat.pow_le_pow_right (by omega) hk
  exact pk_andN hv k (pk_tn (by omega))
theorem hr_bit {v c : Nat} (hv : v < 2 ^ 31) (hc : c < 32) : (nI v >>> (nI c &&& 31)) &&& 1 = nI (v.testBit c).toNat := by
  have h2 : v / 2 ^ c ≤ v := Nat.div_le_self _ _
  rw [hr_shr hv hc, Nat.toNat_testBit]
  exact pk_andN (by omega) 1 (by decide)
theorem hr_one {c : Nat} (hc : c < 31) : (1 : Int32) <<< (nI c &&& 31) = nI (2 ^ c) := by
  have h1 : 2 ^ c < 2 ^ 31 := Nat.pow_lt_pow_right (by omega) hc
  have h := pk_shlN (n := 1) (nI c &&& 31) c (hr_sl c (by omega)) (by omega)
  rw [Nat.one_mul] at h
  exact h
theorem hr_mask {c : Nat} (hc : c < 31) : ((1 : Int32) <<< (nI c &&& 31)) - 1 = nI (2 ^ c - 1) := by
  rw [hr_one hc]
  exact pk_sub (b := 1) (Nat.two_pow_pos c)
theorem hr_t0 {b : Bool} (h : b.toNat = 0) : b = false := by
  cases b
  · rfl
  · exact absurd h (by decide)
theorem hr_t1 {b : Bool} (h : b.toNat ≠ 0) : b = true := by
  cases b
  · exact absurd rfl h
  · rfl
theorem hr_tb (b : Bool) : b.toNat < 2 ^ 31 := by cases b <;> decide
theorem hr_tlt {v c k : Nat} (hv : v < 2 ^ k) (hk : k ≤ c) : v.testBit c = false := Nat.testBit_lt_two_pow (Nat.lt_of_lt_of_le hv (Nat.pow_le_pow_right (by omega) hk))
/-! a stretch of an array -/
def hr_A (b n : Nat) (s : Nat → Int32) (z : Nat → Nat) : Prop := ∀ i, i < n → s (b + i) = nI (z i)
theorem hr_A_0 {b : Nat} {s : Nat → Int32} {z : Nat → Nat} : hr_A b 0 s z := fun i h => absurd h (by omega)
theorem hr_A_put {b n k : Nat} {s : Nat → Int32} {z : Nat → Nat} {x : Int32} (h : hr_A b n s z) (hk : k = b + n) (hx : x = nI (z n)) : hr_A b (n + 1) (upd s k x) z := by
  intro i hi
  rw [hk]
  by_cases e : i = n
  · rw [e, pk_us, hx]
  · rw [pk_un (by omega)]
    exact h i (by omega)
theorem hr_A_add {b n k : Nat} {s : Nat → Int32} {z : Nat → Nat} {x : Int32} {v : Nat} (h : hr_A b n s z) (hk : k = b + n) (hx : x = nI v) : hr_A b (n + 1) (upd s k x) (hr_up z n v) := by
  intro i hi
  rw [hk]
  by_cases e : i = n
  · rw [e, pk_us, hr_us, hx]
  · rw [pk_un (by omega), hr_un e]
    exact h i (by omega)
theorem hr_A_cg {b n : Nat} {s s' : Nat → Int32} {z : Nat → Nat} (h : hr_A b n s z) (e : ∀ j, j < b + n → s' j = s j) : hr_A b n s' z := by
  intro i hi
  rw [e (b + i) (by omega)]
  exact h i hi
theorem hr_kp {k t : Nat} {s a : Nat → Int32} {x : Int32} (h : ∀ j, j < t → s j = a j) (hk : t ≤ k) : ∀ j, j < t → upd s k x j = a j := by
  intro j hj
  rw [pk_un (by omega)]
  exact h j hj
/-- the rows in their array -/
def hr_R (m : Nat) (R : Nat → Nat) (a1 : Nat → Int32) : Prop := ∀ j, j < m → R j < 4096 ∧ a1 j = nI (R j)
/-- column c in its arrays -/
def hr_G (m : Nat) (R : Nat → Nat) (a2 a3 : Nat → Int32) (c : Nat) : Prop := ∃ o d : Nat → Nat, hr_A (8 * c) m a2 o ∧ hr_A (8 * c) m a3 d ∧ hr_C m R c o d
theorem hr_G_cg {m : Nat} {R : Nat → Nat} {a2 a3 b2 b3 : Nat → Int32} {c t : Nat} (hm : m ≤ 8) (h : hr_G m R a2 a3 c) (ht : 8 * c + 8 ≤ t) (e2 : ∀ j, j < t → b2 j = a2 j) (e3 : ∀ j, j < t → b3 j = a3 j) : hr_G m R b2 b3 c := by
  obtain ⟨o, d, h2, h3, hC⟩ := h
  exact ⟨o, d, hr_A_cg h2 (fun j hj => e2 j (by omega)), hr_A_cg h3 (fun j hj => e3 j (by omega)), hC⟩
theorem hr_cl {x : Int32} {n : Nat} (hx : x = nI n) (h : n < 2 ^ 31) : x.toNatClampNeg = n := pk_cl n hx h
/-- the bit of a row -/
theorem hr_at {post : Int32 → Prop} {cn bt : Int32} {a1 a2 a3 a4 a5 : Nat → Int32} {m r c : Nat} {R : Nat → Nat} (hm : m ≤ 8) (hR : hr_R m R a1) (hr : r < m) (hc : c < 32) (H : post (nI ((R r).testBit c).toNat)) : wpX_at post (cn, bt, a1, a2, a3, a4, a5) (nI r) (nI c) := by
  obtain ⟨hv, e⟩ := hR r hr
  show vp_in (nI r) 8 ∧ post (((a1 (nI r).toNatClampNeg) >>> (nI c &&& 31)) &&& 1)
  rw [nI_clamp (by omega), e, hr_bit (by omega) hc]
  exact ⟨pk_in r 8 (by omega), H⟩
end
section
/-! part: the ones behind the zeros -/
theorem hr_166 {post : St1 → Prop} {cn bt : Int32} {a1 a2 a3 a4 a5 : Nat → Int32} {t Z M : Nat} {no nd : Nat → Nat} (ht : t + 8 ≤ 104) (hZ : Z + M ≤ 8) (h4 : hr_A 0 M a4 no) (h5 : hr_A 0 M a5 nd)
    (H : ∀ b2 b3, (∀ j, j < t + Z → b2 j = a2 j) → (∀ j, j < t + Z → b3 j = a3 j) → hr_A (t + Z) M b2 no → hr_A (t + Z) M b3 nd → post (cn, bt, a1, b2, b3, a4, a5)) :
    ∃ n, wX_part_166 post (nI t) (nI Z) (nI M) cn bt n 0 a1 a2 a3 a4 a5 := by
  refine pk_loop (σ := (Nat → Int32) × (Nat → Int32)) (fun n i s => wX_part_166 post (nI t) (nI Z) (nI M) cn bt n (nI i) a1 s.1 s.2 a4 a5)
    (fun i s => (∀ j, j < t + Z → s.1 j = a2 j) ∧ (∀ j, j < t + Z → s.2 j = a3 j) ∧ hr_A (t + Z) i s.1 no ∧ hr_A (t + Z) i s.2 nd) M 0 (a2, a3) (by omega) ⟨fun _ _ => rfl, fun _ _ => rfl, hr_A_0, hr_A_0⟩
    (fun n s h => pk_le M M (fun _ => H s.1 s.2 h.1 h.2.1 h.2.2.1 h.2.2.2) (fun z => absurd z (by omega))) ?_
  intro n i s hi h hw
  obtain ⟨s2, s3⟩ := s
  obtain ⟨k2, k3, p2, p3⟩ := h
  have e1 : nI t + nI Z + nI i = nI (t + Z + i) := by rw [nI_add, nI_add]
  have x4 : a4 (nI i).toNatClampNeg = nI (no i) := by
    rw [nI_clamp (by omega)]
    have := h4 i hi
    rw [Nat.zero_add] at this
    exact this
  have x5 : a5 (nI i).toNatClampNeg = nI (nd i) := by
    rw [nI_clamp (by omega)]
    have := h5 i hi
    rw [Nat.zero_add] at this
    exact this
  have ec : (nI t + nI Z + nI i).toNatClampNeg = t + Z + i := hr_cl e1 (by omega)
  exact pk_le M i (fun z => absurd z (by omega)) (fun _ => ⟨pk_in i 8 (by omega), pk_in (t + Z + i) 104 (by omega) e1, nm_e ⟨pk_in i 8 (by omega), pk_in (t + Z + i) 104 (by omega) e1, nm_e (nm_r (nI_1 i) (hw (_, _) ⟨hr_kp k2 (by omega), hr_kp k3 (by omega), hr_A_put p2 ec x4, hr_A_put p3 ec x5⟩))⟩⟩)
/-- the picture inside part's loop, behind i rows -/
def hr_J (R : Nat → Nat) (c : Nat) (o : Nat → Nat) (a2 a3 : Nat → Int32) (i Z M sz so : Nat) (b2 b3 b4 b5 : Nat → Int32) : Prop :=
  ∃ zo zd no nd : Nat → Nat, hr_I R c o false i Z sz zo zd ∧ hr_I R c o true i M so no nd ∧ Z + M = i ∧
    (∀ f : Nat → Nat, hr_sm Z (fun i => f (zo i)) + hr_sm M (fun i => f (no i)) = hr_sm i (fun i => f (o i))) ∧
    (∀ j, j < 8 * c + 8 → b2 j = a2 j) ∧ (∀ j, j < 8 * c + 8 → b3 j = a3 j) ∧ hr_A (8 * c + 8) Z b2 zo ∧ hr_A (8 * c + 8) Z b3 zd ∧ hr_A 0 M b4 no ∧ hr_A 0 M b5 nd
theorem hr_I_b {R : Nat → Nat} {c : Nat} {o : Nat → Nat} {b : Bool} {i Z sz : Nat} {zo zd : Nat → Nat} (h : hr_I R c o b i Z sz zo zd) : sz ≤ c + 1 := by
  obtain ⟨h1, h2, h3, h4, h5, h6, h7⟩ := h
  rcases Nat.eq_zero_or_pos Z with z | z
  · rw [h5 z]
    exact Nat.le_refl _
  · obtain ⟨p, hp, e, e2⟩ := h7 z
    have := hr_s_le (R (o p)) (R (o (i - 1))) c
    rw [e2]
    omega
theorem hr_sm_up {Z v : Nat} {zo f : Nat → Nat} : hr_sm (Z + 1) (fun i => f (hr_up zo Z v i)) = hr_sm Z (fun i => f (zo i)) + f v := by
  show hr_sm Z (fun i => f (hr_up zo Z v i)) + f (hr_up zo Z v Z) = _
  rw [hr_us, hr_sm_cg (g := fun i => f (zo i)) (fun i hi => by rw [hr_un (by omega)])]
theorem hr_J_0 {m : Nat} {R : Nat → Nat} {c : Nat} {o d : Nat → Nat} {a2 a3 : Nat → Int32} {i Z M sz so : Nat} {b2 b3 b4 b5 : Nat → Int32} {k : Nat} (hm : m ≤ 8) (hC : hr_C m R c o d) (hi : i < m) (h : hr_J R c o a2 a3 i Z M sz so b2 b3 b4 b5) (hb : (R (o i)).testBit c = false) (hk : k = 8 * c + 8 + Z) :
    hr_J R c o a2 a3 (i + 1) (Z + 1) M 0 (max so (d i)) (upd b2 k (nI (o i))) (upd b3 k (nI (max sz (d i)))) b4 b5 := by
  obtain ⟨zo, zd, no, nd, h1, h2, h3, h4, h5, h6, h7, h8, h9, h10⟩ := h
  refine ⟨hr_up zo Z (o i), hr_up zd Z (max sz (d i)), no, nd, hr_I_add hm hC hi h1 hb, hr_I_skip hm hC hi h2, by omega, fun f => ?_, hr_kp h5 (by omega), hr_kp h6 (by omega), hr_A_add h7 hk rfl, hr_A_add h8 hk rfl, h9, h10⟩
  have := h4 f
  rw [hr_sm_up]
  show _ = hr_sm i (fun i => f (o i)) + f (o i)
  omega
theorem hr_J_1 {m : Nat} {R : Nat → Nat} {c : Nat} {o d : Nat → Nat} {a2 a3 : Nat → Int32} {i Z M sz so : Nat} {b2 b3 b4 b5 : Nat → Int32} {k : Nat} (hm : m ≤ 8) (hC : hr_C m R c o d) (hi : i < m) (h : hr_J R c o a2 a3 i Z M sz so b2 b3 b4 b5) (hb : (R (o i)).testBit c = true) (hk : k = M) :
    hr_J R c o a2 a3 (i + 1) Z (M + 1) (max sz (d i)) 0 b2 b3 (upd b4 k (nI (o i))) (upd b5 k (nI (max so (d i)))) := by
  obtain ⟨zo, zd, no, nd, h1, h2, h3, h4, h5, h6, h7, h8, h9, h10⟩ := h
  refine ⟨zo, zd, hr_up no M (o i), hr_up nd M (max so (d i)), hr_I_skip hm hC hi h1, hr_I_add hm hC hi h2 hb, by omega, fun f => ?_, h5, h6, h7, h8, hr_A_add h9 (by omega) rfl, hr_A_add h10 (by omega) rfl⟩
  have := h4 f
  rw [hr_sm_up]
  show _ = hr_sm i (fun i => f (o i)) + f (o i)
  omega
theorem hr_90 {post : St1 → Prop} {bt : Int32} {a1 a2 a3 : Nat → Int32} {m c : Nat} {R o d : Nat → Nat} {n i Z M sz so x z : Nat} {b2 b3 b4 b5 : Nat → Int32} (hm : m ≤ 8) (hc : c < 12) (hR : hr_R m R a1) (hC : hr_C m R c o d) (hi : i < m)
    (h : hr_J R c o a2 a3 i Z M sz so b2 b3 b4 b5) (hx : max sz (d i) = x) (hz : max so (d i) = z)
    (hw : ∀ Z M sz so b2 b3 b4 b5, hr_J R c o a2 a3 (i + 1) Z M sz so b2 b3 b4 b5 → wX_part_29 post (nI c) (nI (8 * c)) (nI (8 * c + 8)) (nI m) bt n (nI Z) (nI M) (nI sz) (nI so) (nI (i + 1)) a1 b2 b3 b4 b5) :
    wX_part_90 post (wX_part_29 post (nI c) (nI (8 * c)) (nI (8 * c + 8)) (nI m) bt n) (nI c) (nI (8 * c)) (nI (8 * c + 8)) (nI Z) (nI M) (nI x) (nI i) (nI (o i)) (nI z) (nI m) bt a1 b2 b3 b4 b5 := by
  have ho := hr_P_lt hC.1 hi
  have hZM : Z + M = i := by
    obtain ⟨zo, zd, no, nd, h1, h2, h3, h4⟩ := h
    exact h3
  subst hx hz
  unfold wX_part_90
  refine hr_at hm hR ho (by omega) ?_
  have e1 : nI (8 * c + 8) + nI Z = nI (8 * c + 8 + Z) := nI_add _ _
  have ec : (nI (8 * c + 8) + nI Z).toNatClampNeg = 8 * c + 8 + Z := hr_cl e1 (by omega)
  have em : (nI M).toNatClampNeg = M := nI_clamp (by omega)
  refine pk_eq ((R (o i)).testBit c).toNat 0 (fun q => ?_) (fun q => ?_) rfl rfl (hr_tb _) (by omega)
  · exact ⟨pk_in (8 * c + 8 + Z) 104 (by omega) e1, nm_e ⟨pk_in (8 * c + 8 + Z) 104 (by omega) e1, nm_e (nm_r (nI_1 Z) (nm_r (nI_1 i) (hw (Z + 1) M 0 _ _ _ _ _ (hr_J_0 hm hC hi h (hr_t0 q) ec))))⟩⟩
  · exact ⟨pk_in M 8 (by omega), nm_e ⟨pk_in M 8 (by omega), nm_e (nm_r (nI_1 M) (nm_r (nI_1 i) (hw Z (M + 1) _ 0 _ _ _ _ (hr_J_1 hm hC hi h (hr_t1 q) em))))⟩⟩
theorem hr_74 {post : St1 → Prop} {bt : Int32} {a1 a2 a3 : Nat → Int32} {m c : Nat} {R o d : Nat → Nat} {n i Z M sz so x : Nat} {b2 b3 b4 b5 : Nat → Int32} (hm : m ≤ 8) (hc : c < 12) (hR : hr_R m R a1) (hC : hr_C m R c o d) (hi : i < m)
    (h : hr_J R c o a2 a3 i Z M sz so b2 b3 b4 b5) (hx : max sz (d i) = x)
    (hw : ∀ Z M sz so b2 b3 b4 b5, hr_J R c o a2 a3 (i + 1) Z M sz so b2 b3 b4 b5 → wX_part_29 post (nI c) (nI (8 * c)) (nI (8 * c + 8)) (nI m) bt n (nI Z) (nI M) (nI sz) (nI so) (nI (i + 1)) a1 b2 b3 b4 b5) :
    wX_part_74 post (wX_part_29 post (nI c) (nI (8 * c)) (nI (8 * c + 8)) (nI m) bt n) (nI c) (nI (8 * c)) (nI (8 * c + 8)) (nI Z) (nI M) (nI so) (nI i) (nI (o i)) (nI (d i)) (nI x) (nI m) bt a1 b2 b3 b4 b5 := by
  have hd := hC.2.2.1 i hi
  have hso : so ≤ c + 1 := by
    obtain ⟨zo, zd, no, nd, h1, h2, h3⟩ := h
    exact hr_I_b h2
  exact pk_le (d i) so (fun q => hr_90 hm hc hR hC hi h hx (by omega) hw) (fun q => hr_90 hm hc hR hC hi h hx (by omega) hw)
theorem hr_29 {post : St1 → Prop} {bt : Int32} {a1 a2 a3 a4 a5 : Nat → Int32} {m c : Nat} {R o d : Nat → Nat} (hm : m ≤ 8) (hc : c < 12) (hR : hr_R m R a1) (hC : hr_C m R c o d) (h2 : hr_A (8 * c) m a2 o) (h3 : hr_A (8 * c) m a3 d)
    (H : ∀ b2 b3 b4 b5, (∀ j, j < 8 * c + 8 → b2 j = a2 j) → (∀ j, j < 8 * c + 8 → b3 j = a3 j) → hr_G m R b2 b3 (c + 1) → post (nI m, bt, a1, b2, b3, b4, b5)) :
    ∃ n, wX_part_29 post (nI c) (nI (8 * c)) (nI (8 * c + 8)) (nI m) bt n 0 0 (nI (c + 1)) (nI (c + 1)) 0 a1 a2 a3 a4 a5 := by
  refine pk_loop (σ := Nat × Nat × Nat × Nat × (Nat → Int32) × (Nat → Int32) × (Nat → Int32) × (Nat → Int32)) (fun n i s => wX_part_29 post (nI c) (nI (8 * c)) (nI (8 * c + 8)) (nI m) bt n (nI s.1) (nI s.2.1) (nI s.2.2.1) (nI s.2.2.2.1) (nI i) a1 s.2.2.2.2.1 s.2.2.2.2.2.1 s.2.2.2.2.2.2.1 s.2.2.2.2.2.2.2)
    (fun i s => hr_J R c o a2 a3 i s.1 s.2.1 s.2.2.1 s.2.2.2.1 s.2.2.2.2.1 s.2.2.2.2.2.1 s.2.2.2.2.2.2.1 s.2.2.2.2.2.2.2) m 0 (0, 0, c + 1, c + 1, a2, a3, a4, a5) (by omega)
    ⟨fun _ => 0, fun _ => 0, fun _ => 0, fun _ => 0, hr_I_0 _ _ _ _ _ _, hr_I_0 _ _ _ _ _ _, rfl, fun _ => rfl, fun _ _ => rfl, fun _ _ => rfl, hr_A_0, hr_A_0, hr_A_0, hr_A_0⟩ ?_ ?_
  · intro n s h
    obtain ⟨Z, M, sz, so, b2, b3, b4, b5⟩ := s
    obtain ⟨zo, zd, no, nd, k1, k2, k3, k4, k5, k6, k7, k8, k9, k10⟩ := h
    dsimp only at k1 k2 k3 k4 k5 k6 k7 k8 k9 k10
    show wX_part_29 post (nI c) (nI (8 * c)) (nI (8 * c + 8)) (nI m) bt (n + 1) (nI Z) (nI M) (nI sz) (nI so) (nI m) a1 b2 b3 b4 b5
    refine pk_le m m (fun _ => ?_) (fun z => absurd z (by omega))
    refine hr_166 (t := 8 * c + 8) (Z := Z) (M := M) (by omega) (by omega) k9 k10 (fun e2 e3 q2 q3 g2 g3 => ?_)
    refine H e2 e3 b4 b5 (fun j hj => (q2 j (by omega)).trans (k5 j hj)) (fun j hj => (q3 j (by omega)).trans (k6 j hj)) ⟨hr_j Z zo no, hr_j Z zd nd, ?_, ?_, hr_C_step hm hC k1 k2 k3 k4⟩
    · intro i hi
      show e2 (8 * c + 8 + i) = _
      rcases Nat.lt_or_ge i Z with w | w
      · rw [hr_j_lo w, q2 _ (by omega)]
        exact k7 i w
      · rw [hr_j_hi w, ← g2 (i - Z) (by omega)]
        exact congrArg e2 (by omega)
    · intro i hi
      show e3 (8 * c + 8 + i) = _
      rcases Nat.lt_or_ge i Z with w | w
      · rw [hr_j_lo w, q3 _ (by omega)]
        exact k8 i w
      · rw [hr_j_hi w, ← g3 (i - Z) (by omega)]
        exact congrArg e3 (by omega)
  · intro n i s hi h hw
    obtain ⟨Z, M, sz, so, b2, b3, b4, b5⟩ := s
    have hJ : hr_J R c o a2 a3 i Z M sz so b2 b3 b4 b5 := h
    have hw' : ∀ Z M sz so b2 b3 b4 b5, hr_J R c o a2 a3 (i + 1) Z M sz so b2 b3 b4 b5 → wX_part_29 post (nI c) (nI (8 * c)) (nI (8 * c + 8)) (nI m) bt n (nI Z) (nI M) (nI sz) (nI so) (nI (i + 1)) a1 b2 b3 b4 b5 := fun Z M sz so b2 b3 b4 b5 q => hw (Z, M, sz, so, b2, b3, b4, b5) q
    have hd := hC.2.2.1 i hi
    obtain ⟨zo, zd, no, nd, k1, k2, k3, k4, k5, k6, k7, k8, k9, k10⟩ := h
    dsimp only at k1 k2 k3 k4 k5 k6 k7 k8 k9 k10
    have hsz := hr_I_b k1
    have e1 : nI (8 * c) + nI i = nI (8 * c + i) := nI_add _ _
    have ec : (nI (8 * c) + nI i).toNatClampNeg = 8 * c + i := hr_cl e1 (by omega)
    have x2 : b2 (nI (8 * c) + nI i).toNatClampNeg = nI (o i) := by
      rw [ec, k5 _ (by omega)]
      exact h2 i hi
    have x3 : b3 (nI (8 * c) + nI i).toNatClampNeg = nI (d i) := by
      rw [ec, k6 _ (by omega)]
      exact h3 i hi
    show wX_part_29 post (nI c) (nI (8 * c)) (nI (8 * c + 8)) (nI m) bt (n + 1) (nI Z) (nI M) (nI sz) (nI so) (nI i) a1 b2 b3 b4 b5
    exact pk_le m i (fun z => absurd z (by omega)) (fun _ => ⟨pk_in (8 * c + i) 104 (by omega) e1, nm_r x2 ⟨pk_in (8 * c + i) 104 (by omega) e1, nm_r x3 (pk_le (d i) sz (fun q => hr_74 (sz := sz) (Z := Z) (M := M) (so := so) hm hc hR hC hi hJ (by omega) hw') (fun q => hr_74 (sz := sz) (Z := Z) (M := M) (so := so) hm hc hR hC hi hJ (by omega) hw'))⟩⟩)
theorem hr_part {post : St1 → Prop} {bt : Int32} {a1 a2 a3 a4 a5 : Nat → Int32} {m c : Nat} {R : Nat → Nat} (hm : m ≤ 8) (hc : c < 12) (hR : hr_R m R a1) (hG : hr_G m R a2 a3 c)
    (H : ∀ b2 b3 b4 b5, (∀ j, j < 8 * c + 8 → b2 j = a2 j) → (∀ j, j < 8 * c + 8 → b3 j = a3 j) → hr_G m R b2 b3 (c + 1) → post (nI m, bt, a1, b2, b3, b4, b5)) :
    wpX_part post (nI m, bt, a1, a2, a3, a4, a5) (nI c) := by
  obtain ⟨o, d, h2, h3, hC⟩ := hG
  have e8 : 8 * nI c = nI (8 * c) := pk_mul 8 c
  have e9 : nI (8 * c) + 8 = nI (8 * c + 8) := nI_add (8 * c) 8
  show ∀ x2_1 : Int32, x2_1 = 8 * nI c → _
  exact nm_r e8 (nm_r e9 (nm_r (nI_1 c) (nm_r (nI_1 c) (hr_29 hm hc hR hC h2 h3 H))))
/-! build -/
theorem hr_40 {post : St1 → Prop} {bt : Int32} {a1 a2 a3 a4 a5 : Nat → Int32} {m : Nat} {R : Nat → Nat} (hm : m ≤ 8) (hR : hr_R m R a1) (hG : hr_G m R a2 a3 0)
    (H : ∀ b2 b3 b4 b5, (∀ c, c ≤ 12 → hr_G m R b2 b3 c) → post (nI m, 1, a1, b2, b3, b4, b5)) : ∃ n, wX_build_40 post n 0 (nI m) bt a1 a2 a3 a4 a5 := by
  refine pk_loop (σ := (Nat → Int32) × (Nat → Int32) × (Nat → Int32) × (Nat → Int32)) (fun n i s => wX_build_40 post n (nI i) (nI m) bt a1 s.1 s.2.1 s.2.2.1 s.2.2.2)
    (fun i s => ∀ c, c ≤ i → hr_G m R s.1 s.2.1 c) 12 0 (a2, a3, a4, a5) (by omega) (fun c hc => ?_) (fun n s h => pk_le 12 12 (fun _ => H _ _ _ _ h) (fun z => absurd z (by omega))) ?_
  · have e : c = 0 := by omega
    rw [e]
    exact hG
  · intro n i s hi h hw
    obtain ⟨b2, b3, b4, b5⟩ := s
    refine pk_le 12 i (fun z => absurd z (by omega)) (fun _ => hr_part hm hi hR (h i (Nat.le_refl i)) (fun e2 e3 e4 e5 k2 k3 g => nm_r (nI_1 i) (hw (e2, e3, e4, e5) (fun c hc => ?_))))
    rcases Nat.lt_or_ge i c with w | w
    · have e : c = i + 1 := by omega
      rw [e]
      exact g
    · exact hr_G_cg (t := 8 * i + 8) hm (h c w) (by omega) k2 k3
theorem hr_build {post : St1 → Prop} {bt : Int32} {a1 a2 a3 a4 a5 : Nat → Int32} {m : Nat} {R : Nat → Nat} (hm : m ≤ 8) (hR : hr_R m R a1) (hB : ¬ bt = 0 → ∀ c, c ≤ 12 → hr_G m R a2 a3 c)
    (H : ∀ bt' b2 b3 b4 b5, (∀ c, c ≤ 12 → hr_G m R b2 b3 c) → post (nI m, bt', a1, b2, b3, b4, b5)) : wpX_build post (nI m, bt, a1, a2, a3, a4, a5) := by
  refine br_c (fun _ => ?_) (fun z => H bt a2 a3 a4 a5 (hB z))
  refine pk_loop (σ := (Nat → Int32) × (Nat → Int32)) (fun n i s => wX_build_10 post (nI m) bt n (nI i) a1 s.1 s.2 a4 a5)
    (fun i s => hr_A 0 i s.1 (fun i => i) ∧ hr_A 0 i s.2 (fun _ => 0)) m 0 (a2, a3) (by omega) ⟨hr_A_0, hr_A_0⟩
    (fun n s h => pk_le m m (fun _ => hr_40 hm hR ⟨fun i => i, fun _ => 0, h.1, h.2, hr_C_0 m R⟩ (fun b2 b3 b4 b5 g => H 1 b2 b3 b4 b5 g)) (fun z => absurd z (by omega))) ?_
  intro n i s hi h hw
  obtain ⟨s2, s3⟩ := s
  have ec : (nI i).toNatClampNeg = 0 + i := by rw [nI_clamp (by omega), Nat.zero_add]
  exact pk_le m i (fun z => absurd z (by omega)) (fun _ => ⟨pk_in i 104 (by omega), nm_e ⟨pk_in i 104 (by omega), nm_e (nm_r (nI_1 i) (hw (_, _) ⟨hr_A_put h.1 ec rfl, hr_A_put h.2 ec rfl⟩))⟩⟩)
end
section
/-! what the order says -/
theorem hr_C_place {m : Nat} {R : Nat → Nat} {c : Nat} {o d : Nat → Nat} (hC : hr_C m R c o d) {r : Nat} (hr : r < m) : hr_sm m (fun b => if hr_K R c b < hr_K R c r then 1 else 0) < m ∧ o (hr_sm m (fun b => if hr_K R c b < hr_K R c r then 1 else 0)) = r := by
  obtain ⟨p, hp, e⟩ := hr_P_ex hC.1 hr
  have e1 : hr_sm m (fun j => if hr_K R c (o j) < hr_K R c r then 1 else 0) = hr_sm m (fun b => if hr_K R c b < hr_K R c r then 1 else 0) := hC.1 (fun b => if hr_K R c b < hr_K R c r then 1 else 0)
  have e2 : hr_sm m (fun j => if hr_K R c (o j) < hr_K R c r then 1 else 0) = p := by
    rw [← hr_sm_lt (n := m) (p := p) (by omega)]
    refine hr_sm_cg (fun j hj => ?_)
    rw [← e]
    rcases Nat.lt_trichotomy j p with z | z | z
    · rw [if_pos (hC.2.1 j p z hp), if_pos z]
    · rw [z, if_neg (Nat.lt_irrefl _), if_neg (Nat.lt_irrefl _)]
    · have := hC.2.1 p j z hj
      rw [if_neg (by omega), if_neg (by omega)]
  rw [← e1, e2]
  exact ⟨hp, e⟩
theorem hr_K_ne {R : Nat → Nat} {c a b : Nat} (ha : a < 8) (hb : b < 8) (h : ¬ a = b) : ¬ hr_K R c a = hr_K R c b := by
  unfold hr_K
  generalize R a % 2 ^ c = x
  generalize R b % 2 ^ c = y
  omega
/-- a match of N columns or more ends before column c -/
def hr_e (N c x y : Nat) : Nat := if N ≤ c - hr_s x y c ∧ (c = 12 ∨ ¬ x.testBit c = y.testBit c) then 1 else 0
theorem hr_e_comm (N c x y : Nat) : hr_e N c x y = hr_e N c y x := by
  unfold hr_e
  rw [hr_s_comm x y c]
  by_cases h : N ≤ c - hr_s y x c ∧ (c = 12 ∨ ¬ x.testBit c = y.testBit c)
  · rw [if_pos h, if_pos ⟨h.1, h.2.imp id (fun q z => q z.symm)⟩]
  · rw [if_neg h, if_neg (fun q => h ⟨q.1, q.2.imp id (fun q z => q z.symm)⟩)]
/-- all matches that end before column c -/
def hr_E (m : Nat) (R : Nat → Nat) (N c : Nat) : Nat := hr_sm m (fun a => hr_sm a (fun b => hr_e N c (R a) (R b)))
theorem hr_C_E {m : Nat} {R : Nat → Nat} {c : Nat} {o d : Nat → Nat} (hm : m ≤ 8) (hC : hr_C m R c o d) (N : Nat) : hr_sm m (fun i => hr_sm m (fun j => if i < j then hr_e N c (R (o i)) (R (o j)) else 0)) = hr_E m R N c := by
  have e1 : hr_sm m (fun i => hr_sm m (fun j => if i < j then hr_e N c (R (o i)) (R (o j)) else 0)) = hr_sm m (fun i => hr_sm m (fun j => if hr_K R c (o i) < hr_K R c (o j) then hr_e N c (R (o i)) (R (o j)) else 0)) := by
    refine hr_sm_cg (fun i hi => hr_sm_cg (fun j hj => ?_))
    rcases Nat.lt_trichotomy i j with z | z | z
    · rw [if_pos z, if_pos (hC.2.1 i j z hj)]
    · rw [z, if_neg (Nat.lt_irrefl _), if_neg (Nat.lt_irrefl _)]
    · have := hC.2.1 j i z hi
      rw [if_neg (by omega), if_neg (by omega)]
  have e2 : hr_sm m (fun i => hr_sm m (fun j => if hr_K R c (o i) < hr_K R c (o j) then hr_e N c (R (o i)) (R (o j)) else 0)) = hr_sm m (fun i => hr_sm m (fun b => if hr_K R c (o i) < hr_K R c b then hr_e N c (R (o i)) (R b) else 0)) :=
    hr_sm_cg (fun i hi => hC.1 (fun b => if hr_K R c (o i) < hr_K R c b then hr_e N c (R (o i)) (R b) else 0))
  have e3 : hr_sm m (fun i => hr_sm m (fun b => if hr_K R c (o i) < hr_K R c b then hr_e N c (R (o i)) (R b) else 0)) = hr_sm m (fun a => hr_sm m (fun b => if hr_K R c a < hr_K R c b then hr_e N c (R a) (R b) else 0)) :=
    hC.1 (fun a => hr_sm m (fun b => if hr_K R c a < hr_K R c b then hr_e N c (R a) (R b) else 0))
  rw [e1, e2, e3, hr_sm_tri m (fun a b => if hr_K R c a < hr_K R c b then hr_e N c (R a) (R b) else 0) (fun a _ => if_neg (Nat.lt_irrefl _))]
  refine hr_sm_cg (fun a ha => hr_sm_cg (fun b hb => ?_))
  have ne := hr_K_ne (R := R) (c := c) (show a < 8 by omega) (show b < 8 by omega) (by omega)
  rcases Nat.lt_or_ge (hr_K R c a) (hr_K R c b) with z | z
  · rw [if_pos z, if_neg (by omega), Nat.add_zero]
  · rw [if_neg (by omega), if_pos (by omega), Nat.zero_add, hr_e_comm]
/-- the longest agreement that ends before column c or earlier -/
def hr_b (x y : Nat) : Nat → Nat
  | 0 => 0
  | c + 1 => max (hr_b x y c) (c + 1 - hr_s x y (c + 1))
theorem hr_b_le (x y c : Nat) : hr_b x y c ≤ c := by
  induction c with
  | zero => exact Nat.le_refl 0
  | succ c ih =>
    show max (hr_b x y c) (c + 1 - hr_s x y (c + 1)) ≤ c + 1
    omega
/-! the place of a row -/
theorem hr_ix (c i : Nat) : 8 * nI c + nI i = nI (8 * c + i) := by
  rw [show (8 : Int32) * nI c = nI (8 * c) from pk_mul 8 c, nI_add]
theorem hr_place {post : Int32 → Prop} {bt : Int32} {a1 a2 a3 a4 a5 : Nat → Int32} {m c r p : Nat} {R o d : Nat → Nat} (hm : m ≤ 8) (hc : c ≤ 12) (h2 : hr_A (8 * c) m a2 o) (hC : hr_C m R c o d) (hp : p < m) (e : o p = r) (H : post (nI p)) :
    wpX_placeOf post (nI m, bt, a1, a2, a3, a4, a5) (nI r) (nI c) := by
  have hr := hr_P_lt hC.1 hp
  show ∃ fu5 : Nat, wX_placeOf_5 post (nI r) (nI c) (nI m) bt a1 a2 a3 a4 a5 fu5 0 0
  refine pk_loop (σ := Nat) (fun n i f => wX_placeOf_5 post (nI r) (nI c) (nI m) bt a1 a2 a3 a4 a5 n (nI f) (nI i)) (fun i f => p < i → f = p) m 0 0 (by omega) (fun h => absurd h (by omega)) ?_ ?_
  · intro n f h
    refine pk_le m m (fun _ => ?_) (fun z => absurd z (by omega))
    rw [h hp]
    exact H
  · intro n i f hi h hw
    have ho := hr_P_lt hC.1 hi
    have x2 : a2 (8 * nI c + nI i).toNatClampNeg = nI (o i) := by
      rw [hr_cl (hr_ix c i) (by omega)]
      exact h2 i hi
    refine pk_le m i (fun z => absurd z (by omega)) (fun _ => ⟨pk_in (8 * c + i) 104 (by omega) (hr_ix c i), ?_⟩)
    refine pk_eq (o i) r (fun q => nm_r (nI_1 i) (hw i (fun _ => ?_))) (fun q => nm_r (nI_1 i) (hw f (fun z => ?_))) x2 rfl (by omega) (by omega)
    · exact hr_C_inj hC hi hp (q.trans e.symm)
    · have : ¬ p = i := fun w => q (by rw [← w]; exact e)
      exact h (by omega)
/-! since when two rows agree -/
theorem hr_57 {post : Int32 → Prop} {bt : Int32} {a1 a2 a3 a4 a5 : Nat → Int32} {m c lo hi : Nat} {R o d : Nat → Nat} (hm : m ≤ 8) (hc : c ≤ 12) (h3 : hr_A (8 * c) m a3 d) (hC : hr_C m R c o d) (hlo : lo ≤ hi) (hhi : hi < m) (H : post (nI (hr_s (R (o lo)) (R (o hi)) c))) :
    ∃ n, wX_agreeSince_57 post (nI c) (nI hi) (nI m) bt a1 a2 a3 a4 a5 n 0 (nI (lo + 1)) := by
  refine pk_loop (σ := Nat) (fun n i s => wX_agreeSince_57 post (nI c) (nI hi) (nI m) bt a1 a2 a3 a4 a5 n (nI s) (nI i)) (fun i s => lo < i ∧ s = hr_s (R (o lo)) (R (o (i - 1))) c) (hi + 1) (lo + 1) 0 (by omega) ⟨by omega, ?_⟩ ?_ ?_
  · rw [Nat.add_sub_cancel, hr_s_self]
  · intro n s h
    refine pk_lt hi (hi + 1) (fun _ => ?_) (fun z => absurd z (by omega))
    rw [h.2, Nat.add_sub_cancel]
    exact H
  · intro n i s hi' h hw
    obtain ⟨hl, hs⟩ := h
    have hd := hC.2.2.1 i (by omega)
    have hb : s ≤ 12 := by
      have := hr_s_le (R (o lo)) (R (o (i - 1))) c
      omega
    have st := hr_C_st hm hC (i := lo) (j := i - 1) (by omega) (by omega)
    rw [← hs, show i - 1 + 1 = i by omega] at st
    have x3 : a3 (8 * nI c + nI i).toNatClampNeg = nI (d i) := by
      rw [hr_cl (hr_ix c i) (by omega)]
      exact h3 i (by omega)
    refine pk_lt hi i (fun z => absurd z (by omega)) (fun _ => ⟨pk_in (8 * c + i) 104 (by omega) (hr_ix c i), nm_r x3 ?_⟩)
    refine pk_le (d i) s (fun q => nm_r (nI_1 i) (hw s ⟨by omega, ?_⟩)) (fun q => nm_r (nI_1 i) (hw (d i) ⟨by omega, ?_⟩))
    · rw [Nat.add_sub_cancel, ← st]
      omega
    · rw [Nat.add_sub_cancel, ← st]
      omega
theorem hr_agree {post : Int32 → Prop} {bt : Int32} {a1 a2 a3 a4 a5 : Nat → Int32} {m c r s : Nat} {R : Nat → Nat} (hm : m ≤ 8) (hc : c ≤ 12) (hG : hr_G m R a2 a3 c) (hr : r < m) (hs : s < m) (H : post (nI (hr_s (R r) (R s) c))) :
    wpX_agreeSince post (nI m, bt, a1, a2, a3, a4, a5) (nI r) (nI s) (nI c) := by
  obtain ⟨o, d, h2, h3, hC⟩ := hG
  obtain ⟨p, hp, ep⟩ := hr_P_ex hC.1 hr
  obtain ⟨q, hq, eq⟩ := hr_P_ex hC.1 hs
  unfold wpX_agreeSince
  dsimp only
  refine hr_place hm hc h2 hC hp ep ?_
  refine hr_place hm hc h2 hC hq eq ?_
  refine pk_le q p (fun z => ?_) (fun z => ?_)
  · unfold wX_agreeSince_30
    refine pk_le q p (fun _ => nm_r (nI_1 q) (hr_57 hm hc h3 hC z hp ?_)) (fun w => absurd w (by omega))
    rw [ep, eq, hr_s_comm]
    exact H
  · unfold wX_agreeSince_30
    refine pk_le q p (fun w => absurd w (by omega)) (fun _ => nm_r (nI_1 p) (hr_57 hm hc h3 hC (by omega) hq ?_))
    rw [ep, eq]
    exact H
/-! longest -/
theorem hr_noRow {post : Int32 → Prop} {bt : Int32} {a1 a2 a3 a4 a5 : Nat → Int32} {m r : Nat} (hm : m ≤ 8) (hr : r < m) (H : post 0) : wpX_noRow post (nI m, bt, a1, a2, a3, a4, a5) (nI r) :=
  br_f (nI_pos (by omega)) (br_t (nI_lt hr (by omega)) H)
theorem hr_longest {post : Int32 → St1 → Prop} {bt : Int32} {a1 a2 a3 a4 a5 : Nat → Int32} {m r s : Nat} {R : Nat → Nat} (hm : m ≤ 8) (hR : hr_R m R a1) (hB : ¬ bt = 0 → ∀ c, c ≤ 12 → hr_G m R a2 a3 c) (hr : r < m) (hs : s < m) (hrs : ¬ r = s)
    (H : ∀ bt' b2 b3 b4 b5, (∀ c, c ≤ 12 → hr_G m R b2 b3 c) → post (nI (hr_b (R r) (R s) 12)) (nI m, bt', a1, b2, b3, b4, b5)) : wpX_longest post (nI m, bt, a1, a2, a3, a4, a5) (nI r) (nI s) := by
  unfold wpX_longest
  dsimp only
  refine hr_noRow hm hr (br_t rfl ?_)
  refine hr_noRow hm hs (br_t rfl ?_)
  refine pk_eq r s (fun z => absurd z hrs) (fun _ => ?_)
  refine hr_build hm hR hB (fun bt' b2 b3 b4 b5 g => ?_)
  refine pk_loop (σ := Nat) (fun n i f => wX_longest_33 post (nI r) (nI s) (nI m) bt' a1 b2 b3 b4 b5 n (nI f) (nI i)) (fun i f => 0 < i ∧ f = hr_b (R r) (R s) (i - 1)) 13 1 0 (by omega) ⟨by omega, rfl⟩ ?_ ?_
  · intro n f h
    refine pk_lt 12 13 (fun _ => ?_) (fun z => absurd z (by omega))
    rw [h.2]
    exact H bt' b2 b3 b4 b5 g
  · intro n i f hi h hw
    obtain ⟨h0, hf⟩ := h
    have hbd := hr_b_le (R r) (R s) (i - 1)
    have hsl := hr_s_le (R r) (R s) i
    have nx : hr_b (R r) (R s) i = max f (i - hr_s (R r) (R s) i) := by
      obtain ⟨k, rfl⟩ : ∃ k, i = k + 1 := ⟨i - 1, by omega⟩
      rw [hf]
      rfl
    refine pk_lt 12 i (fun z => absurd z (by omega)) (fun _ => ?_)
    refine hr_agree hm (by omega) (g i (by omega)) hr hs ?_
    refine pk_le (i - hr_s (R r) (R s) i) f (fun q => nm_r (nI_1 i) (hw f ⟨by omega, ?_⟩)) (fun q => nm_r (pk_sub hsl) (nm_r (nI_1 i) (hw (i - hr_s (R r) (R s) i) ⟨by omega, ?_⟩))) (pk_sub hsl) rfl (by omega) (by omega)
    · rw [Nat.add_sub_cancel, nx]
      omega
    · rw [Nat.add_sub_cancel, nx]
      omega
/-! ordered -/
theorem hr_ordered {post : Int32 → St1 → Prop} {bt : Int32} {a1 a2 a3 a4 a5 : Nat → Int32} {m c r p : Nat} {R : Nat → Nat} (hm : m ≤ 8) (hR : hr_R m R a1) (hB : ¬ bt = 0 → ∀ c, c ≤ 12 → hr_G m R a2 a3 c) (hc : c ≤ 12) (hr : r < m) (hp : p = hr_sm m (fun b => if hr_K R c b < hr_K R c r then 1 else 0)) (hpm : p < m)
    (H : ∀ bt' b2 b3 b4 b5, (∀ c, c ≤ 12 → hr_G m R b2 b3 c) → post (nI r) (nI m, bt', a1, b2, b3, b4, b5)) : wpX_ordered post (nI m, bt, a1, a2, a3, a4, a5) (nI c) (nI p) := by
  unfold wpX_ordered
  dsimp only
  unfold wpX_noPlace
  dsimp only
  refine br_f (nI_pos (by omega)) (br_f (nI_nlt (b := c) (a := 12) hc (by omega)) (br_f (nI_pos (by omega)) (br_t (nI_lt hpm (by omega)) (br_t rfl ?_))))
  refine hr_build hm hR hB (fun bt' b2 b3 b4 b5 g => ?_)
  obtain ⟨o, d, h2, h3, hC⟩ := g c hc
  obtain ⟨q1, q2⟩ := hr_C_place hC hr
  rw [← hp] at q2
  refine ⟨pk_in (8 * c + p) 104 (by omega) (hr_ix c p), ?_⟩
  show post (b2 (8 * nI c + nI p).toNatClampNeg) (nI m, bt', a1, b2, b3, b4, b5)
  rw [hr_cl (hr_ix c p) (by omega), h2 p hpm, q2]
  exact H bt' b2 b3 b4 b5 g
end
section
/-! matches -/
theorem hr_tj {a b : Bool} (h : a.toNat = b.toNat) : a = b := by
  cases a <;> cases b <;> first | rfl | exact absurd h (by decide)
theorem hr_parts {post : Int32 → Prop} {bt : Int32} {a1 a2 a3 a4 a5 : Nat → Int32} {m c r s : Nat} {R : Nat → Nat} (hm : m ≤ 8) (hc : c ≤ 12) (hR : hr_R m R a1) (hr : r < m) (hs : s < m)
    (H1 : (c = 12 ∨ ¬ (R r).testBit c = (R s).testBit c) → post 1) (H0 : ¬ (c = 12 ∨ ¬ (R r).testBit c = (R s).testBit c) → post 0) : wpX_parts post (nI m, bt, a1, a2, a3, a4, a5) (nI r) (nI s) (nI c) := by
  unfold wpX_parts
  dsimp only
  refine pk_eq c 12 (fun z => H1 (Or.inl z)) (fun z => ?_)
  refine hr_at hm hR hr (by omega) ?_
  refine hr_at hm hR hs (by omega) ?_
  refine pk_eq ((R r).testBit c).toNat ((R s).testBit c).toNat (fun q => H0 (fun w => ?_)) (fun q => H1 (Or.inr (fun w => q (by rw [w])))) rfl rfl (hr_tb _) (hr_tb _)
  rcases w with w | w
  · exact z w
  · exact w (hr_tj q)
theorem hr_60 {post : Int32 → Prop} {J5 : Int32 → Int32 → Prop} {J23 : Int32 → Int32 → Int32 → Prop} {bt : Int32} {a1 a2 a3 a4 a5 : Nat → Int32} {m c N f i j z : Nat} {R o d : Nat → Nat} (hm : m ≤ 8) (hc : c ≤ 12) (hN : N ≤ 12) (hR : hr_R m R a1) (h2 : hr_A (8 * c) m a2 o) (hC : hr_C m R c o d) (hi : i < m) (hj : j < m) (hz : z = hr_s (R (o i)) (R (o j)) c)
    (H : J23 (nI (f + hr_e N c (R (o i)) (R (o j)))) (nI z) (nI (j + 1))) :
    wX_endingAt_60 post J5 J23 (nI c) (nI N) (nI f) (nI i) (nI j) (nI z) (nI m) bt a1 a2 a3 a4 a5 := by
  have hzc : z ≤ c := by
    rw [hz]
    exact hr_s_le _ _ _
  have x2 : a2 (8 * nI c + nI i).toNatClampNeg = nI (o i) := by
    rw [hr_cl (hr_ix c i) (by omega)]
    exact h2 i hi
  have x3 : a2 (8 * nI c + nI j).toNatClampNeg = nI (o j) := by
    rw [hr_cl (hr_ix c j) (by omega)]
    exact h2 j hj
  have no : ¬ (N ≤ c - z ∧ (c = 12 ∨ ¬ (R (o i)).testBit c = (R (o j)).testBit c)) → J23 (nI f) (nI z) (nI (j + 1)) := by
    intro q
    rw [hz] at q
    have e : hr_e N c (R (o i)) (R (o j)) = 0 := if_neg q
    rw [e] at H
    exact H
  have yes : (N ≤ c - z ∧ (c = 12 ∨ ¬ (R (o i)).testBit c = (R (o j)).testBit c)) → J23 (nI (f + 1)) (nI z) (nI (j + 1)) := by
    intro q
    rw [hz] at q
    have e : hr_e N c (R (o i)) (R (o j)) = 1 := if_pos q
    rw [e] at H
    exact H
  refine ⟨pk_in (8 * c + i) 104 (by omega) (hr_ix c i), nm_r x2 ⟨pk_in (8 * c + j) 104 (by omega) (hr_ix c j), nm_r x3 ?_⟩⟩
  refine pk_lt (c - z) N (fun q => nm_r (nI_1 j) (no (fun w => absurd w.1 (by omega)))) (fun q => ?_) (pk_sub hzc) rfl (by omega) (by omega)
  exact hr_parts hm hc hR (hr_P_lt hC.1 hi) (hr_P_lt hC.1 hj) (fun w => br_f (by decide) (nm_r (nI_1 f) (nm_r (nI_1 j) (yes ⟨q, w⟩)))) (fun w => br_t rfl (nm_r (nI_1 j) (no (fun t => w t.2))))
theorem hr_23 {post : Int32 → Prop} {J5 : Int32 → Int32 → Prop} {bt : Int32} {a1 a2 a3 a4 a5 : Nat → Int32} {m c N f0 i : Nat} {R o d : Nat → Nat} (hm : m ≤ 8) (hc : c ≤ 12) (hN : N ≤ 12) (hR : hr_R m R a1) (h2 : hr_A (8 * c) m a2 o) (h3 : hr_A (8 * c) m a3 d) (hC : hr_C m R c o d) (hi : i < m)
    (H : J5 (nI (f0 + hr_sm m (fun j => if i < j then hr_e N c (R (o i)) (R (o j)) else 0))) (nI (i + 1))) :
    ∃ n, wX_endingAt_23 post J5 (nI c) (nI N) (nI i) (nI m) bt a1 a2 a3 a4 a5 n (nI f0) 0 (nI (i + 1)) := by
  refine pk_loop (σ := Nat × Nat) (fun n j s => wX_endingAt_23 post J5 (nI c) (nI N) (nI i) (nI m) bt a1 a2 a3 a4 a5 n (nI s.1) (nI s.2) (nI j)) (fun j s => i < j ∧ s.1 = f0 + hr_sm j (fun j => if i < j then hr_e N c (R (o i)) (R (o j)) else 0) ∧ s.2 = hr_s (R (o i)) (R (o (j - 1))) c) m (i + 1) (f0, 0) (by omega) ⟨by omega, ?_, ?_⟩ ?_ ?_
  · rw [hr_sm_z (fun j hj => if_neg (by omega))]
    rfl
  · rw [Nat.add_sub_cancel, hr_s_self]
  · intro n s h
    refine pk_le m m (fun _ => nm_r (nI_1 i) ?_) (fun z => absurd z (by omega))
    rw [h.2.1]
    exact H
  · intro n j s hj h hw
    obtain ⟨f, s⟩ := s
    obtain ⟨hl, hf, hs⟩ := h
    dsimp only at hf hs
    have hd := hC.2.2.1 j hj
    have hb : s ≤ 12 := by
      have := hr_s_le (R (o i)) (R (o (j - 1))) c
      omega
    have st := hr_C_st hm hC (i := i) (j := j - 1) (by omega) (by omega)
    rw [← hs, show j - 1 + 1 = j by omega] at st
    have x3 : a3 (8 * nI c + nI j).toNatClampNeg = nI (d j) := by
      rw [hr_cl (hr_ix c j) (by omega)]
      exact h3 j hj
    have go : ∀ z, z = hr_s (R (o i)) (R (o j)) c → wX_endingAt_60 post J5 (wX_endingAt_23 post J5 (nI c) (nI N) (nI i) (nI m) bt a1 a2 a3 a4 a5 n) (nI c) (nI N) (nI f) (nI i) (nI j) (nI z) (nI m) bt a1 a2 a3 a4 a5 := by
      intro z hz
      refine hr_60 hm hc hN hR h2 hC hi hj hz (hw (_, z) ⟨by omega, ?_, ?_⟩)
      · show f + hr_e N c (R (o i)) (R (o j)) = f0 + (hr_sm j (fun j => if i < j then hr_e N c (R (o i)) (R (o j)) else 0) + (if i < j then hr_e N c (R (o i)) (R (o j)) else 0))
        rw [if_pos hl, hf]
        omega
      · rw [Nat.add_sub_cancel]
        exact hz
    refine pk_le m j (fun z => absurd z (by omega)) (fun _ => ⟨pk_in (8 * c + j) 104 (by omega) (hr_ix c j), nm_r x3 ?_⟩)
    exact pk_le (d j) s (fun q => go s (by omega)) (fun q => go (d j) (by omega))
theorem hr_ending {post : Int32 → Prop} {bt : Int32} {a1 a2 a3 a4 a5 : Nat → Int32} {m c N : Nat} {R : Nat → Nat} (hm : m ≤ 8) (hc : c ≤ 12) (hN : N ≤ 12) (hR : hr_R m R a1) (hG : hr_G m R a2 a3 c) (H : post (nI (hr_E m R N c))) :
    wpX_endingAt post (nI m, bt, a1, a2, a3, a4, a5) (nI c) (nI N) := by
  obtain ⟨o, d, h2, h3, hC⟩ := hG
  show ∃ fu5 : Nat, wX_endingAt_5 post (nI c) (nI N) (nI m) bt a1 a2 a3 a4 a5 fu5 0 0
  refine pk_loop (σ := Nat) (fun n i f => wX_endingAt_5 post (nI c) (nI N) (nI m) bt a1 a2 a3 a4 a5 n (nI f) (nI i)) (fun i f => f = hr_sm i (fun i => hr_sm m (fun j => if i < j then hr_e N c (R (o i)) (R (o j)) else 0))) m 0 0 (by omega) rfl ?_ ?_
  · intro n f h
    refine pk_le m m (fun _ => ?_) (fun z => absurd z (by omega))
    rw [h, hr_C_E hm hC N]
    exact H
  · intro n i f hi h hw
    refine pk_le m i (fun z => absurd z (by omega)) (fun _ => nm_r (nI_1 i) (hr_23 hm hc hN hR h2 h3 hC hi (hw _ ?_)))
    rw [h]
    rfl
theorem hr_matches {post : Int32 → St1 → Prop} {bt : Int32} {a1 a2 a3 a4 a5 : Nat → Int32} {m N : Nat} {R : Nat → Nat} (hm : m ≤ 8) (hR : hr_R m R a1) (hB : ¬ bt = 0 → ∀ c, c ≤ 12 → hr_G m R a2 a3 c) (h1 : 1 ≤ N) (hN : N ≤ 12)
    (H : ∀ bt' b2 b3 b4 b5, (∀ c, c ≤ 12 → hr_G m R b2 b3 c) → post (nI (hr_sm 12 (fun c => hr_E m R N (c + 1)))) (nI m, bt', a1, b2, b3, b4, b5)) : wpX_matches post (nI m, bt, a1, a2, a3, a4, a5) (nI N) := by
  unfold wpX_matches
  dsimp only
  refine pk_lt N 1 (fun z => absurd z (by omega)) (fun _ => ?_)
  refine pk_le N 12 (fun _ => ?_) (fun z => absurd z (by omega))
  refine hr_build hm hR hB (fun bt' b2 b3 b4 b5 g => ?_)
  refine pk_loop (σ := Nat) (fun n i f => wX_matches_21 post (nI N) (nI m) bt' a1 b2 b3 b4 b5 n (nI f) (nI i)) (fun i f => 0 < i ∧ f = hr_sm (i - 1) (fun c => hr_E m R N (c + 1))) 13 1 0 (by omega) ⟨by omega, rfl⟩ ?_ ?_
  · intro n f h
    refine pk_lt 12 13 (fun _ => ?_) (fun z => absurd z (by omega))
    rw [h.2]
    exact H bt' b2 b3 b4 b5 g
  · intro n i f hi h hw
    obtain ⟨h0, hf⟩ := h
    have nx : f + hr_E m R N i = hr_sm i (fun c => hr_E m R N (c + 1)) := by
      obtain ⟨k, rfl⟩ : ∃ k, i = k + 1 := ⟨i - 1, by omega⟩
      rw [hf]
      rfl
    refine pk_lt 12 i (fun z => absurd z (by omega)) (fun _ => ?_)
    refine hr_ending hm (by omega) hN hR (g i (by omega)) ?_
    refine nm_r (nI_add _ _) (nm_r (nI_1 i) (hw _ ⟨by omega, ?_⟩))
    rw [Nat.add_sub_cancel]
    exact nx
/-! having -/
theorem hr_dm (x a w : Nat) : x % 2 ^ (a + w) / 2 ^ a = x / 2 ^ a % 2 ^ w := by
  rw [Nat.pow_add, Nat.mod_mul_right_div_self]
theorem hr_1766 {post : Int32 → St1 → Prop} {bt : Int32} {a1 a2 a3 a4 a5 : Nat → Int32} {m a w q : Nat} {R : Nat → Nat} (hm : m ≤ 8) (hR : hr_R m R a1) (haw : a + w ≤ 12) (hq : q < 4096) (hG : hr_G m R a2 a3 (a + w))
    (H : post (nI (hr_sm m (fun r => if R r / 2 ^ a % 2 ^ w = q % 2 ^ w then 1 else 0))) (nI m, bt, a1, a2, a3, a4, a5)) :
    ∃ n, wX_having_66 post (nI a) (nI q) (nI (2 ^ w - 1)) (nI (a + w)) (nI m) bt a1 a2 a3 a4 a5 n 0 0 0 := by
  obtain ⟨o, d, h2, h3, hC⟩ := hG
  have hsm : ∀ n, n ≤ m → hr_sm n (fun j => if R (o j) / 2 ^ a % 2 ^ w = q % 2 ^ w then 1 else 0) ≤ n := by
    intro n
    induction n with
    | zero => intro _; exact Nat.le_refl 0
    | succ n ih =>
      intro hn
      show hr_sm n (fun j => if R (o j) / 2 ^ a % 2 ^ w = q % 2 ^ w then 1 else 0) + (if R (o n) / 2 ^ a % 2 ^ w = q % 2 ^ w then 1 else 0) ≤ n + 1
      have := ih (by omega)
      by_cases z : R (o n) / 2 ^ a % 2 ^ w = q % 2 ^ w
      · rw [if_pos z]; omega
      · rw [if_neg z]; omega
  refine pk_loop (σ := Nat × Nat) (fun n i s => wX_having_66 post (nI a) (nI q) (nI (2 ^ w - 1)) (nI (a + w)) (nI m) bt a1 a2 a3 a4 a5 n (nI s.1) (nI s.2) (nI i))
    (fun i s => s.1 = hr_sm i (fun j => if R (o j) / 2 ^ a % 2 ^ w = q % 2 ^ w then 1 else 0) ∧ ((s.2 = 0 ∧ (0 < i → ¬ R (o (i - 1)) / 2 ^ a % 2 ^ w = q % 2 ^ w)) ∨ (s.2 = 1 ∧ 0 < i ∧ R (o (i - 1)) / 2 ^ a % 2 ^ w = q % 2 ^ w))) m 0 (0, 0) (by omega) ⟨rfl, Or.inl ⟨rfl, fun z => absurd z (by omega)⟩⟩ ?_ ?_
  · intro n s h
    refine pk_le m m (fun _ => ?_) (fun z => absurd z (by omega))
    rw [h.1, hC.1 (fun r => if R r / 2 ^ a % 2 ^ w = q % 2 ^ w then 1 else 0)]
    exact H
  · intro n i s hi h hw
    obtain ⟨f, s⟩ := s
    obtain ⟨hf, hs⟩ := h
    dsimp only at hf hs
    have ho := hr_P_lt hC.1 hi
    have hd := hC.2.2.1 i hi
    have hfb : f ≤ i := by
      rw [hf]
      exact hsm i (by omega)
    have yes : R (o i) / 2 ^ a % 2 ^ w = q % 2 ^ w → wX_having_66 post (nI a) (nI q) (nI (2 ^ w - 1)) (nI (a + w)) (nI m) bt a1 a2 a3 a4 a5 n (nI (f + 1)) (nI 1) (nI (i + 1)) := by
      intro z
      refine hw (f + 1, 1) ⟨?_, Or.inr ⟨rfl, by omega, ?_⟩⟩
      · show f + 1 = hr_sm i (fun j => if R (o j) / 2 ^ a % 2 ^ w = q % 2 ^ w then 1 else 0) + (if R (o i) / 2 ^ a % 2 ^ w = q % 2 ^ w then 1 else 0)
        rw [if_pos z, hf]
      · rw [Nat.add_sub_cancel]
        exact z
    have no : ¬ R (o i) / 2 ^ a % 2 ^ w = q % 2 ^ w → wX_having_66 post (nI a) (nI q) (nI (2 ^ w - 1)) (nI (a + w)) (nI m) bt a1 a2 a3 a4 a5 n (nI f) (nI 0) (nI (i + 1)) := by
      intro z
      refine hw (f, 0) ⟨?_, Or.inl ⟨rfl, fun _ => ?_⟩⟩
      · show f = hr_sm i (fun j => if R (o j) / 2 ^ a % 2 ^ w = q % 2 ^ w then 1 else 0) + (if R (o i) / 2 ^ a % 2 ^ w = q % 2 ^ w then 1 else 0)
        rw [if_neg z, hf, Nat.add_zero]
      · rw [Nat.add_sub_cancel]
        exact z
    have ix := hr_ix (a + w) i
    have x2 : a2 (8 * nI (a + w) + nI i).toNatClampNeg = nI (o i) := by
      rw [hr_cl ix (by omega)]
      exact h2 i hi
    have x3 : a3 (8 * nI (a + w) + nI i).toNatClampNeg = nI (d i) := by
      rw [hr_cl ix (by omega)]
      exact h3 i hi
    have dv : ∀ j, R (o j) % 2 ^ (a + w) / 2 ^ a = R (o j) / 2 ^ a % 2 ^ w := fun j => hr_dm _ _ _
    refine pk_le m i (fun z => absurd z (by omega)) (fun _ => ?_)
    rcases hs with ⟨hs, hq0⟩ | ⟨hs, hi0, hq1⟩
    · subst hs
      refine br_t rfl ?_
      refine pk_eq f 0 (fun z => ?_) (fun z => ?_)
      · refine ⟨pk_in (8 * (a + w) + i) 104 (by omega) ix, ?_⟩
        rw [x2, nI_clamp (show o i < 2 ^ 31 by omega), (hR (o i) ho).2]
        have hv := (hR (o i) ho).1
        have hdv := Nat.div_le_self (R (o i)) (2 ^ a)
        rw [hr_shr (by omega) (by omega), hr_mod _ w (by omega) (by omega), hr_mod q w (by omega) (by omega)]
        have m1 := Nat.mod_le (R (o i) / 2 ^ a) (2 ^ w)
        have m2 := Nat.mod_le q (2 ^ w)
        refine ⟨pk_in (o i) 8 (by omega), ?_⟩
        refine pk_eq (R (o i) / 2 ^ a % 2 ^ w) (q % 2 ^ w) (fun g => ?_) (fun g => ?_)
        · exact br_f (by decide) (nm_r (nI_1 f) (nm_r (nI_1 i) (yes g)))
        · exact br_t rfl (nm_r (nI_1 i) (no g))
      · refine br_t rfl (nm_r (nI_1 i) (no (fun g => ?_)))
        have hpos : 0 < hr_sm i (fun j => if R (o j) / 2 ^ a % 2 ^ w = q % 2 ^ w then 1 else 0) := by omega
        obtain ⟨j, hj, gj⟩ := hr_sm_pos hpos
        have gj' : R (o j) / 2 ^ a % 2 ^ w = q % 2 ^ w := by
          by_cases t : R (o j) / 2 ^ a % 2 ^ w = q % 2 ^ w
          · exact t
          · rw [if_neg t] at gj
            omega
        have l1 := Nat.div_le_div_right (c := 2 ^ a) (hr_C_mono hm hC (i := j) (j := i - 1) (by omega) (by omega))
        have l2 := Nat.div_le_div_right (c := 2 ^ a) (hr_C_mono hm hC (i := i - 1) (j := i) (by omega) (by omega))
        rw [dv, dv] at l1 l2
        exact hq0 (by omega) (by omega)
    · subst hs
      refine br_f (show ¬ nI 1 = 0 by decide) ⟨pk_in (8 * (a + w) + i) 104 (by omega) ix, ?_⟩
      have hdi : d i = hr_s (R (o (i - 1))) (R (o i)) (a + w) := by
        have := hC.2.2.2 (i - 1) (by omega)
        rw [show i - 1 + 1 = i by omega] at this
        exact this
      have sd := hr_s_div (R (o (i - 1))) (R (o i)) a (a + w)
      rw [← hdi, dv, dv, hq1] at sd
      refine pk_lt a (d i) (fun g => ?_) (fun g => ?_) rfl x3 (by omega) (by omega)
      · exact br_t rfl (nm_r (nI_1 i) (no (fun t => absurd (sd.mpr t.symm) (by omega))))
      · exact br_f (by decide) (nm_r (nI_1 f) (nm_r (nI_1 i) (yes (sd.mp g).symm)))
theorem hr_having {post : Int32 → St1 → Prop} {bt : Int32} {a1 a2 a3 a4 a5 : Nat → Int32} {m a w q : Nat} {R : Nat → Nat} (hm : m ≤ 8) (hR : hr_R m R a1) (hB : ¬ bt = 0 → ∀ c, c ≤ 12 → hr_G m R a2 a3 c) (haw : a + w ≤ 12) (hq : q < 4096)
    (H : ∀ bt' b2 b3 b4 b5, (∀ c, c ≤ 12 → hr_G m R b2 b3 c) → post (nI (hr_sm m (fun r => if R r / 2 ^ a % 2 ^ w = q % 2 ^ w then 1 else 0))) (nI m, bt', a1, b2, b3, b4, b5)) : wpX_having post (nI m, bt, a1, a2, a3, a4, a5) (nI a) (nI w) (nI q) := by
  unfold wpX_having
  dsimp only
  refine br_f (nI_pos (by omega)) ?_
  refine pk_lt 12 a (fun z => absurd z (by omega)) (fun _ => ?_)
  refine br_f (nI_pos (by omega)) ?_
  refine pk_lt 12 w (fun z => absurd z (by omega)) (fun _ => ?_)
  refine pk_lt 12 (a + w) (fun z => absurd z (by omega)) (fun _ => ?_) rfl (nI_add a w) (by omega) (by omega)
  refine br_f (nI_pos (by omega)) ?_
  refine pk_le q 4095 (fun _ => ?_) (fun z => absurd z (by omega))
  refine hr_build hm hR hB (fun bt' b2 b3 b4 b5 g => ?_)
  exact nm_r (hr_mask (by omega)) (nm_r (nI_add a w) (hr_1766 hm hR haw hq (g (a + w) haw) (H bt' b2 b3 b4 b5 g)))
end
section
/-! the packed rows -/
def hr_pt (w : Int64) (k : Nat) : Nat := w.toBitVec.toNat / 2 ^ (12 * k) % 2 ^ 12
theorem hr_pt_b (w : Int64) (k : Nat) : hr_pt w k < 4096 := Nat.mod_lt _ (by decide)
theorem hr_pt_t (w : Int64) (k i : Nat) : (hr_pt w k).testBit i = (decide (i < 12) && w.toBitVec.getLsbD (i + 12 * k)) := by
  unfold hr_pt
  rw [Nat.testBit_mod_two_pow, Nat.testBit_div_two_pow, BitVec.testBit_toNat]
theorem hr_lsh : ∀ k, k < 4 → (((12 * nI k).toInt64 &&& 63).toBitVec.smod 64).toNat = 12 * k := by decide +kernel
theorem hr_4095 : ∀ j, j < 64 → (4095 : Int64).toBitVec.getLsbD j = decide (j < 12) := by decide +kernel
theorem hr_m1 : ∀ j, j < 64 → (-1 : Int64).toBitVec.getLsbD j = true := by decide +kernel
theorem hr_pt_eq (w : Int64) (k : Nat) (hk : k < 4) : ((w >>> ((12 * nI k).toInt64 &&& 63)) &&& 4095).toInt32 = nI (hr_pt w k) := by
  apply Int32.toBitVec_inj.mp
  rw [Int64.toBitVec_toInt32, Int64.toBitVec_and, Int64.toBitVec_shiftRight]
  show (w.toBitVec.sshiftRight (((12 * nI k).toInt64 &&& 63).toBitVec.smod 64).toNat &&& (4095 : Int64).toBitVec).signExtend 32 = BitVec.ofNat 32 (hr_pt w k)
  rw [hr_lsh k hk]
  apply BitVec.eq_of_getLsbD_eq
  intro i hi
  rw [BitVec.getLsbD_signExtend, if_pos (show i < 64 by omega), BitVec.getLsbD_and, BitVec.getLsbD_sshiftRight, BitVec.getLsbD_ofNat, hr_pt_t, hr_4095 i (by omega)]
  by_cases h : i < 12
  · rw [if_pos (show 12 * k + i < 64 by omega), Nat.add_comm (12 * k) i]
    simp [h, hi, show ¬ 64 ≤ i by omega]
  · simp [h]
def hr_wt (w : Int64) (k v : Nat) : Int64 := (w &&& (((4095 : Int64) <<< ((12 * nI k).toInt64 &&& 63)) ^^^ (-1))) ||| ((nI v).toInt64 <<< ((12 * nI k).toInt64 &&& 63))
theorem hr_wt_t (w : Int64) (k v j : Nat) (hk : k < 4) (hv : v < 4096) (hj : j < 64) : (hr_wt w k v).toBitVec.getLsbD j = ((w.toBitVec.getLsbD j && !(decide (12 * k ≤ j) && decide (j < 12 * k + 12))) || (decide (12 * k ≤ j) && v.testBit (j - 12 * k))) := by
  unfold hr_wt
  rw [Int64.toBitVec_or, Int64.toBitVec_and, Int64.toBitVec_xor, Int64.toBitVec_shiftLeft, Int64.toBitVec_shiftLeft, nI_l (by omega)]
  show (w.toBitVec &&& ((4095 : Int64).toBitVec <<< (((12 * nI k).toInt64 &&& 63).toBitVec.smod 64).toNat ^^^ (-1 : Int64).toBitVec) ||| (BitVec.ofNat 64 v) <<< (((12 * nI k).toInt64 &&& 63).toBitVec.smod 64).toNat).getLsbD j = _
  rw [hr_lsh k hk, BitVec.getLsbD_or, BitVec.getLsbD_and, BitVec.getLsbD_xor, BitVec.getLsbD_shiftLeft, BitVec.getLsbD_shiftLeft, hr_m1 j hj, hr_4095 (j - 12 * k) (by omega), BitVec.getLsbD_ofNat]
  by_cases h : 12 * k ≤ j
  · by_cases h2 : j < 12 * k + 12
    · simp [h, h2, hj, show ¬ j < 12 * k by omega, show j - 12 * k < 12 by omega, show j - 12 * k < 64 by omega]
    · simp [h, h2, hj, show ¬ j < 12 * k by omega, show ¬ j - 12 * k < 12 by omega, show j - 12 * k < 64 by omega]
  · simp [h, hj, show j < 12 * k by omega]
theorem hr_pt_wt {w : Int64} {k v k' : Nat} (hk : k < 4) (hv : v < 4096) (hk' : k' < 4) : hr_pt (hr_wt w k v) k' = if k' = k then v else hr_pt w k' := by
  apply Nat.eq_of_testBit_eq
  intro i
  rw [hr_pt_t]
  by_cases hi : i < 12
  · rw [hr_wt_t w k v (i + 12 * k') hk hv (by omega)]
    by_cases e : k' = k
    · rw [if_pos e, e]
      simp [hi, show 12 * k ≤ i + 12 * k by omega, show i + 12 * k < 12 * k + 12 by omega]
    · rw [if_neg e, hr_pt_t]
      by_cases g : 12 * k ≤ i + 12 * k'
      · have z : v.testBit (i + 12 * k' - 12 * k) = false := hr_tlt (k := 12) hv (by omega)
        simp [hi, g, z, show ¬ i + 12 * k' < 12 * k + 12 by omega]
      · simp [hi, g]
  · by_cases e : k' = k
    · rw [if_pos e, hr_tlt (k := 12) hv (by omega)]
      simp [hi]
    · rw [if_neg e, hr_pt_t]
      simp [hi]
/-- row a of the two packed numbers -/
def hr_rw (lo hi : Int64) (a : Nat) : Nat := if a < 4 then hr_pt lo a else hr_pt hi (a - 4)
theorem hr_rw_b (lo hi : Int64) (a : Nat) : hr_rw lo hi a < 4096 := by
  unfold hr_rw
  by_cases h : a < 4
  · rw [if_pos h]; exact hr_pt_b _ _
  · rw [if_neg h]; exact hr_pt_b _ _
theorem hr_and3 {r : Nat} (h : r < 2 ^ 31) : nI r &&& 3 = nI (r % 4) := pk_andN (by omega) 2 (by decide)
theorem hr_Lpart {post : Int32 → Prop} {lo hi : Int64} {r : Nat} (hr : r < 8) (H : post (nI (hr_rw lo hi r))) : wpL_part post () lo hi (nI r) := by
  unfold hr_rw at H
  refine pk_le 4 r (fun z => ?_) (fun z => ?_)
  · rw [if_neg (by omega)] at H
    show post (((hi >>> ((12 * (nI r &&& 3)).toInt64 &&& 63)) &&& 4095).toInt32)
    rw [hr_and3 (by omega), hr_pt_eq _ _ (by omega), show r % 4 = r - 4 by omega]
    exact H
  · rw [if_pos z] at H
    show post (((lo >>> ((12 * (nI r &&& 3)).toInt64 &&& 63)) &&& 4095).toInt32)
    rw [hr_and3 (by omega), hr_pt_eq _ _ (by omega), show r % 4 = r by omega]
    exact H
theorem hr_Lwith {post : Int64 → Prop} {w : Int64} {r v : Nat} (hr : r < 8) (H : post (hr_wt w (r % 4) v)) : wpL_with post () w (nI r) (nI v) := by
  show post ((w &&& (((4095 : Int64) <<< ((12 * (nI r &&& 3)).toInt64 &&& 63)) ^^^ (-1))) ||| ((nI v).toInt64 <<< ((12 * (nI r &&& 3)).toInt64 &&& 63)))
  rw [hr_and3 (by omega)]
  exact H
theorem hr_rw_lo {lo hi : Int64} {r v : Nat} (hr : r < 4) (hv : v < 4096) {j : Nat} (hj : j < 8) : hr_rw (hr_wt lo (r % 4) v) hi j = if j = r then v else hr_rw lo hi j := by
  unfold hr_rw
  by_cases h : j < 4
  · rw [if_pos h, hr_pt_wt (by omega) hv h, show r % 4 = r by omega, if_pos h]
  · rw [if_neg h, if_neg h, if_neg (show ¬ j = r by omega)]
theorem hr_rw_hi {lo hi : Int64} {r v : Nat} (hr : 4 ≤ r) (hr8 : r < 8) (hv : v < 4096) {j : Nat} (hj : j < 8) : hr_rw lo (hr_wt hi (r % 4) v) j = if j = r then v else hr_rw lo hi j := by
  unfold hr_rw
  by_cases h : j < 4
  · rw [if_pos h, if_pos h, if_neg (show ¬ j = r by omega)]
  · rw [if_neg h, if_neg h, hr_pt_wt (by omega) hv (by omega), show r % 4 = r - 4 by omega]
    by_cases e : j = r
    · rw [if_pos e, if_pos (by omega)]
    · rw [if_neg e, if_neg (by omega)]
/-! runs -/
theorem hr_78 {post : Int32 → Prop} {J10 : Int32 → Int32 → Int32 → Int32 → Prop} {x0 x1 : Int32} {c b z i : Nat} (hb : b ≤ 100) (hz : z ≤ 100) (H : J10 (nI c) (nI (max b z)) (nI z) (nI (i + 1))) : wL_runs_78 post J10 x0 x1 (nI c) (nI b) (nI i) (nI z) := by
  refine pk_le z b (fun q => nm_r (nI_1 i) ?_) (fun q => nm_r (nI_1 i) ?_)
  · rw [show max b z = b by omega] at H
    exact H
  · rw [show max b z = z by omega] at H
    exact H
theorem hr_39_0 {post : Int32 → Prop} {J10 : Int32 → Int32 → Int32 → Int32 → Prop} {x0 : Int32} {N c b w i : Nat} (hb : b ≤ 100) (hw : w < 100) (H : J10 (nI c) (nI (max b (w + 1))) (nI (w + 1)) (nI (i + 1))) : wL_runs_39 post J10 x0 (nI N) (nI c) (nI b) (nI w) (nI i) 0 := by
  unfold wL_runs_39 wL_runs_63 wL_runs_64
  refine br_t rfl (br_t rfl ?_)
  rw [nI_1]
  exact hr_78 hb (by omega) H
theorem hr_39_1 {post : Int32 → Prop} {J10 : Int32 → Int32 → Int32 → Int32 → Prop} {x0 : Int32} {N c b w i : Nat} (hN : 1 ≤ N) (hN2 : N ≤ 100) (hb : b ≤ 100) (hw : w ≤ 100) (H : J10 (nI (c + if N ≤ w then 1 else 0)) (nI b) (nI 0) (nI (i + 1))) : wL_runs_39 post J10 x0 (nI N) (nI c) (nI b) (nI w) (nI i) 1 := by
  have h0 : ¬ (1 : Int32) = 0 := by decide
  unfold wL_runs_39 wL_runs_63 wL_runs_64
  refine br_f h0 ?_
  refine pk_lt w N (fun q => ?_) (fun q => ?_)
  · rw [if_neg (by omega)] at H
    exact br_f h0 (hr_78 (z := 0) hb (by omega) (by rw [show max b 0 = b by omega]; exact H))
  · refine pk_le w 0 (fun z => absurd z (by omega)) (fun _ => ?_)
    rw [if_pos q] at H
    refine br_f h0 ?_
    rw [nI_1]
    exact hr_78 (z := 0) hb (by omega) (by rw [show max b 0 = b by omega]; exact H)
theorem hr_pack : ∀ c, c < 14 → ∀ b, b < 13 → (nI c ||| (nI b <<< ((8 : Int32) &&& 31))) &&& 255 = nI c ∧ (nI c ||| (nI b <<< ((8 : Int32) &&& 31))) >>> ((8 : Int32) &&& 31) = nI b := by decide +kernel
theorem hr_sm_le {n : Nat} {f : Nat → Nat} (h : ∀ i, i < n → f i ≤ 1) : hr_sm n f ≤ n := by
  induction n with
  | zero => exact Nat.le_refl 0
  | succ n ih =>
    show hr_sm n f + f n ≤ n + 1
    have := ih (fun i hi => h i (by omega))
    have := h n (by omega)
    omega
theorem hr_e_le (N c x y : Nat) : hr_e N c x y ≤ 1 := by
  unfold hr_e
  by_cases h : N ≤ c - hr_s x y c ∧ (c = 12 ∨ ¬ x.testBit c = y.testBit c)
  · rw [if_pos h]; exact Nat.le_refl 1
  · rw [if_neg h]; omega
theorem hr_runs {post : Int32 → Prop} {x y N : Nat} (hx : x < 4096) (hy : y < 4096) (hN : 1 ≤ N) (hN2 : N ≤ 12)
    (H : ∀ r, r &&& 255 = nI (hr_sm 12 (fun c => hr_e N (c + 1) x y)) → r >>> ((8 : Int32) &&& 31) = nI (hr_b x y 12) → post r) : wpL_runs post () (nI x ^^^ nI y) (nI N) := by
  have hD : x ^^^ y < 2 ^ 12 := Nat.xor_lt_two_pow hx hy
  rw [hr_xor]
  show ∃ fu10 : Nat, wL_runs_10 post (nI (x ^^^ y)) (nI N) fu10 0 0 0 0
  refine pk_loop (σ := Nat × Nat × Nat) (fun n i s => wL_runs_10 post (nI (x ^^^ y)) (nI N) n (nI s.1) (nI s.2.1) (nI s.2.2) (nI i))
    (fun i s => s.1 = hr_sm i (fun c => hr_e N c x y) ∧ s.2.1 = hr_b x y (min i 12) ∧ (i ≤ 12 → s.2.2 = i - hr_s x y i)) 13 0 (0, 0, 0) (by omega) ⟨rfl, rfl, fun _ => rfl⟩ ?_ ?_
  · intro n s h
    obtain ⟨c, b, w⟩ := s
    obtain ⟨h1, h2, h3⟩ := h
    dsimp only at h1 h2 h3
    have hb := hr_b_le x y 12
    have e0 : hr_e N 0 x y = 0 := if_neg (fun z => absurd z.1 (by omega))
    have e1 : hr_sm 13 (fun c => hr_e N c x y) = hr_sm 12 (fun c => hr_e N (c + 1) x y) := by
      rw [show 13 = 1 + 12 from rfl, hr_sm_app]
      show 0 + hr_e N 0 x y + hr_sm 12 (fun i => hr_e N (1 + i) x y) = _
      rw [e0, Nat.zero_add]
      exact hr_sm_cg (fun i _ => by rw [Nat.add_comm])
    rw [show min 13 12 = 12 from rfl] at h2
    have hc : hr_sm 13 (fun c => hr_e N c x y) ≤ 13 := hr_sm_le (fun i _ => hr_e_le _ _ _ _)
    obtain ⟨p1, p2⟩ := hr_pack c (by omega) b (by omega)
    refine pk_le 13 13 (fun _ => H _ ?_ ?_) (fun z => absurd z (by omega))
    · rw [p1, h1, e1]
    · rw [p2, h2]
  · intro n i s hi h hw
    obtain ⟨c, b, w⟩ := s
    obtain ⟨h1, h2, h3⟩ := h
    dsimp only at h1 h2 h3
    have hb := hr_b_le x y (min i 12)
    have h3 := h3 (by omega)
    have nx : hr_sm (i + 1) (fun c => hr_e N c x y) = c + hr_e N i x y := by
      rw [h1]
      rfl
    have ends : (i = 12 ∨ ¬ x.testBit i = y.testBit i) → wL_runs_39 post (wL_runs_10 post (nI (x ^^^ y)) (nI N) n) (nI (x ^^^ y)) (nI N) (nI c) (nI b) (nI w) (nI i) 1 := by
      intro q
      refine hr_39_1 hN (by omega) (by omega) (by omega) (hw (_, b, 0) ⟨?_, ?_, fun z => ?_⟩)
      · rw [nx]
        unfold hr_e
        rw [← h3]
        by_cases t : N ≤ w
        · rw [if_pos t, if_pos ⟨t, q⟩]
        · rw [if_neg t, if_neg (fun u => t u.1)]
      · rcases q with q | q
        · rw [q] at h2 ⊢
          exact h2
        · rcases Nat.lt_or_ge i 12 with t | t
          · rw [show min (i + 1) 12 = i + 1 by omega]
            rw [show min i 12 = i by omega] at h2
            show b = max (hr_b x y i) (i + 1 - hr_s x y (i + 1))
            rw [hr_s_ne q, h2]
            omega
          · rw [show min (i + 1) 12 = min i 12 by omega]
            exact h2
      · rcases q with q | q
        · exact absurd z (by omega)
        · show 0 = i + 1 - hr_s x y (i + 1)
          rw [hr_s_ne q]
          omega
    show wL_runs_10 post (nI (x ^^^ y)) (nI N) (n + 1) (nI c) (nI b) (nI w) (nI i)
    refine pk_le 13 i (fun z => absurd z (by omega)) (fun _ => ?_)
    refine pk_eq i 12 (fun z => ends (Or.inl z)) (fun z => ?_)
    have hbt : (nI (x ^^^ y) >>> (nI i &&& 31)) &&& 1 = nI ((x ^^^ y).testBit i).toNat := hr_bit (by omega) (by omega)
    refine pk_eq ((x ^^^ y).testBit i).toNat 1 (fun q => ends (Or.inr (fun t => ?_))) (fun q => ?_) hbt rfl (hr_tb _) (by omega)
    · rw [Nat.testBit_xor, t, Bool.xor_self] at q
      exact absurd q (by decide)
    · have t : x.testBit i = y.testBit i := by
        rw [Nat.testBit_xor] at q
        revert q
        cases x.testBit i <;> cases y.testBit i <;> first | (intro _; rfl) | (intro q; exact absurd rfl q)
      refine hr_39_0 (by omega) (by omega) (hw (c, max b (w + 1), w + 1) ⟨?_, ?_, fun _ => ?_⟩)
      · show c = _
        rw [nx]
        unfold hr_e
        rw [if_neg (fun u => u.2.elim z (fun v => v t)), Nat.add_zero]
      · rw [show min (i + 1) 12 = i + 1 by omega]
        rw [show min i 12 = i by omega] at h2
        show max b (w + 1) = max (hr_b x y i) (i + 1 - hr_s x y (i + 1))
        have := hr_s_le x y i
        rw [hr_s_eq t, h2, h3]
        congr 1
        omega
      · show w + 1 = i + 1 - hr_s x y (i + 1)
        have := hr_s_le x y i
        rw [hr_s_eq t, h3]
        omega
/-! before -/
theorem hr_bf {x y c k : Nat} (e : hr_s x y c = k + 1) : (x.testBit k = false → x % 2 ^ c < y % 2 ^ c) ∧ (x.testBit k = true → y % 2 ^ c < x % 2 ^ c) := by
  have hk : k < c := by
    have := hr_s_le x y c
    omega
  have ag := (hr_s_iff x y (k + 1) c).mp (by omega)
  have dv := (hr_s_div x y (k + 1) c).mp (by omega)
  have ne : ¬ x.testBit k = y.testBit k := by
    intro t
    have : hr_s x y c ≤ k := (hr_s_iff x y k c).mpr (fun i h1 h2 => by
      rcases Nat.eq_or_lt_of_le h1 with z | z
      · rw [← z]
        exact t
      · exact ag i z h2)
    omega
  rw [Nat.pow_succ, ← Nat.div_div_eq_div_mul, ← Nat.div_div_eq_div_mul] at dv
  have bx : x % 2 ^ c / 2 ^ k % 2 = (x.testBit k).toNat := by
    rw [← Nat.toNat_testBit, Nat.testBit_mod_two_pow, decide_eq_true hk, Bool.true_and]
  have bY : y % 2 ^ c / 2 ^ k % 2 = (y.testBit k).toNat := by
    rw [← Nat.toNat_testBit, Nat.testBit_mod_two_pow, decide_eq_true hk, Bool.true_and]
  constructor
  · intro t
    have t2 : y.testBit k = true := by
      rw [t] at ne
      revert ne
      cases y.testBit k
      · intro ne; exact absurd rfl ne
      · intro _; rfl
    rw [t] at bx
    rw [t2] at bY
    rcases Nat.lt_or_ge (x % 2 ^ c) (y % 2 ^ c) with z | z
    · exact z
    · have g := Nat.div_le_div_right (c := 2 ^ k) z
      have bx' : x % 2 ^ c / 2 ^ k % 2 = 0 := bx
      have by' : y % 2 ^ c / 2 ^ k % 2 = 1 := bY
      omega
  · intro t
    have t2 : y.testBit k = false := by
      rw [t] at ne
      revert ne
      cases y.testBit k
      · intro _; rfl
      · intro ne; exact absurd rfl ne
    rw [t] at bx
    rw [t2] at bY
    rcases Nat.lt_or_ge (y % 2 ^ c) (x % 2 ^ c) with z | z
    · exact z
    · have g := Nat.div_le_div_right (c := 2 ^ k) z
      have bx' : x % 2 ^ c / 2 ^ k % 2 = 1 := bx
      have by' : y % 2 ^ c / 2 ^ k % 2 = 0 := bY
      omega
theorem hr_sD {x y c : Nat} (hc : c ≤ 12) : hr_s ((x ^^^ y) % 2 ^ c) 0 12 = hr_s x y c := by
  have key : ∀ k, hr_s ((x ^^^ y) % 2 ^ c) 0 12 ≤ k ↔ hr_s x y c ≤ k := by
    intro k
    rw [hr_s_iff, hr_s_iff]
    constructor
    · intro h i h1 h2
      have := h i h1 (by omega)
      rw [Nat.testBit_mod_two_pow, decide_eq_true h2, Bool.true_and, Nat.testBit_xor, Nat.zero_testBit] at this
      revert this
      cases x.testBit i <;> cases y.testBit i <;> first | (intro _; rfl) | (intro q; exact absurd q (by decide))
    · intro h i h1 h2
      rw [Nat.testBit_mod_two_pow, Nat.testBit_xor, Nat.zero_testBit]
      by_cases q : i < c
      · rw [h i h1 q, Bool.xor_self, Bool.and_false]
      · rw [decide_eq_false q, Bool.false_and]
  have a := (key (hr_s x y c)).mpr (Nat.le_refl _)
  have b := (key (hr_s ((x ^^^ y) % 2 ^ c) 0 12)).mp (Nat.le_refl _)
  omega
theorem hr_before {post : Int32 → Prop} {x y c : Nat} {l : Int32} (hx : x < 4096) (hy : y < 4096) (hc : c ≤ 12) (hl : narrow .boolean (.int l) = .int l) (H0 : x % 2 ^ c = y % 2 ^ c → post l) (H1 : x % 2 ^ c < y % 2 ^ c → post 1) (H2 : y % 2 ^ c < x % 2 ^ c → post 0) :
    wpL_before post () (nI x) (nI y) (nI c) l := by
  have hD : x ^^^ y < 2 ^ 12 := Nat.xor_lt_two_pow hx hy
  have hDm := Nat.mod_le (x ^^^ y) (2 ^ c)
  have eD : (nI x ^^^ nI y) &&& (((1 : Int32) <<< (nI c &&& 31)) - 1) = nI ((x ^^^ y) % 2 ^ c) := by
    rw [hr_xor, hr_mask (by omega), hr_mod _ _ (by omega) (by omega)]
  unfold wpL_before
  refine nm_r eD ?_
  refine pk_loop (σ := Int32) (fun n i s => wL_before_17 post (nI x) l (nI ((x ^^^ y) % 2 ^ c)) n s (nI i))
    (fun i s => (hr_s ((x ^^^ y) % 2 ^ c) 0 i = 0 → s = -1) ∧ (∀ k, hr_s ((x ^^^ y) % 2 ^ c) 0 i = k + 1 → s = nI k)) 12 0 (-1) (by omega) ⟨fun _ => rfl, fun k h => absurd h (by
      show ¬ 0 = k + 1
      omega)⟩ ?_ ?_
  · intro n s h
    refine pk_le 12 12 (fun _ => ?_) (fun z => absurd z (by omega))
    rw [hr_sD hc] at h
    rcases Nat.eq_zero_or_pos (hr_s x y c) with z | z
    · rw [h.1 z]
      refine br_f (by decide) ⟨hl, H0 ?_⟩
      have := (hr_s_div x y 0 c).mp (by omega)
      rw [Nat.pow_zero, Nat.div_one, Nat.div_one] at this
      exact this
    · obtain ⟨k, e⟩ : ∃ k, hr_s x y c = k + 1 := ⟨hr_s x y c - 1, by omega⟩
      have hk := hr_s_le x y c
      obtain ⟨b0, b1⟩ := hr_bf e
      rw [h.2 k e]
      refine br_t (nI_pos' (by omega)) ?_
      refine pk_eq (x.testBit k).toNat 0 (fun q => H1 (b0 (hr_t0 q))) (fun q => H2 (b1 (hr_t1 q))) (hr_bit (by omega) (by omega)) rfl (hr_tb _) (by omega)
  · intro n i s hi h hw
    have hbt : (nI ((x ^^^ y) % 2 ^ c) >>> (nI i &&& 31)) &&& 1 = nI (((x ^^^ y) % 2 ^ c).testBit i).toNat := hr_bit (by omega) (by omega)
    refine pk_le 12 i (fun z => absurd z (by omega)) (fun _ => ?_)
    refine pk_eq (((x ^^^ y) % 2 ^ c).testBit i).toNat 1 (fun q => nm_r (nI_1 i) (hw (nI i) ?_)) (fun q => nm_r (nI_1 i) (hw s ?_)) hbt rfl (hr_tb _) (by omega)
    · have t : ¬ ((x ^^^ y) % 2 ^ c).testBit i = (0 : Nat).testBit i := by
        intro t
        rw [t, Nat.zero_testBit] at q
        exact absurd q (by decide)
      rw [hr_s_ne t]
      refine ⟨fun z => absurd z (by omega), fun k e => ?_⟩
      rw [show i = k by omega]
    · have t : ((x ^^^ y) % 2 ^ c).testBit i = (0 : Nat).testBit i := by
        rw [Nat.zero_testBit]
        revert q
        cases ((x ^^^ y) % 2 ^ c).testBit i
        · intro _; rfl
        · intro q; exact absurd rfl q
      rw [hr_s_eq t]
      exact h
end
section
section
variable {post : Int32 → Prop} {L : Nat} {xs : Nat → Int32}
  {J19 : Int64 → Int64 → Int32 → Int32 → Int32 → Int32 → (Nat → Int32) → (Nat → Int32) → (Nat → Int32) → (Nat → Int32) → (Nat → Int32) → Prop}
  {J453 J483 : Int32 → Int32 → Int32 → Int32 → Int32 → (Nat → Int32) → (Nat → Int32) → (Nat → Int32) → (Nat → Int32) → (Nat → Int32) → Prop}
  {lo hi : Int64} {x7 x12 x13 x17 x18 x19 x21 x25 bt : Int32} {kc ks : Nat} {a1 a2 a3 a4 a5 : Nat → Int32} {m C N a b M P : Nat}
/-- what stands of the orders -/
def hr_B (m : Nat) (R : Nat → Nat) (bt : Int32) (a2 a3 : Nat → Int32) : Prop := ¬ bt = 0 → ∀ c, c ≤ 12 → hr_G m R a2 a3 c
theorem hr_582 (hm : m ≤ 8) (hR : hr_R m (hr_rw lo hi) a1) (hB : hr_B m (hr_rw lo hi) bt a2 a3) (ha : a < m) (hb : b < m) (h25 : x25 >>> ((8 : Int32) &&& 31) = nI (hr_b (hr_rw lo hi a) (hr_rw lo hi b) 12))
    (H : ∀ bt b2 b3 b4 b5, hr_B m (hr_rw lo hi) bt b2 b3 → J483 (nI M) (nI P) (nI (b + 1)) (nI m) bt a1 b2 b3 b4 b5) :
    wL_law_582 post L xs J19 J453 J483 lo hi (nI m) x7 x12 x13 (nI C) (nI N) (nI M) x17 x18 x19 (nI a) x21 (nI b) x25 (nI P) kc ks (nI m) bt a1 a2 a3 a4 a5 := by
  unfold wL_law_582
  refine pk_eq a b (fun z => nm_r (nI_1 b) (H bt a2 a3 a4 a5 hB)) (fun z => ?_)
  refine hr_longest hm hR hB ha hb z (fun bt' b2 b3 b4 b5 g => ?_)
  exact br_t h25.symm (nm_r (nI_1 b) (H bt' b2 b3 b4 b5 (fun _ => g)))
theorem hr_540 (hm : m ≤ 8) (hR : hr_R m (hr_rw lo hi) a1) (hB : hr_B m (hr_rw lo hi) bt a2 a3) (hC : C ≤ 12) (ha : a < m) (hb : b < m) (h25 : x25 >>> ((8 : Int32) &&& 31) = nI (hr_b (hr_rw lo hi a) (hr_rw lo hi b) 12))
    (H : ∀ bt b2 b3 b4 b5, hr_B m (hr_rw lo hi) bt b2 b3 → J483 (nI M) (nI (P + if hr_K (hr_rw lo hi) C b < hr_K (hr_rw lo hi) C a then 1 else 0)) (nI (b + 1)) (nI m) bt a1 b2 b3 b4 b5) :
    wL_law_540 post L xs J19 J453 J483 lo hi (nI m) x7 x12 x13 (nI C) (nI N) x17 x18 x19 (nI a) (nI (hr_rw lo hi a)) (nI P) (nI b) (nI (hr_rw lo hi b)) x25 (nI M) kc ks (nI m) bt a1 a2 a3 a4 a5 := by
  have no : ¬ hr_K (hr_rw lo hi) C b < hr_K (hr_rw lo hi) C a → wL_law_582 post L xs J19 J453 J483 lo hi (nI m) x7 x12 x13 (nI C) (nI N) (nI M) x17 x18 x19 (nI a) (nI (hr_rw lo hi a)) (nI b) x25 (nI P) kc ks (nI m) bt a1 a2 a3 a4 a5 := by
    intro q
    rw [if_neg q, Nat.add_zero] at H
    exact hr_582 hm hR hB ha hb h25 H
  have yes : hr_K (hr_rw lo hi) C b < hr_K (hr_rw lo hi) C a → wL_law_582 post L xs J19 J453 J483 lo hi (nI m) x7 x12 x13 (nI C) (nI N) (nI M) x17 x18 x19 (nI a) (nI (hr_rw lo hi a)) (nI b) x25 (nI P + 1) kc ks (nI m) bt a1 a2 a3 a4 a5 := by
    intro q
    rw [if_pos q] at H
    rw [nI_1]
    exact hr_582 hm hR hB ha hb h25 H
  have n1 : ¬ (1 : Int32) = 0 := by decide
  unfold wL_law_540 wL_law_567 wL_law_580
  refine pk_eq a b (fun z => no (by rw [z]; exact Nat.lt_irrefl _)) (fun z => ?_)
  have hx := hr_rw_b lo hi b
  have hy := hr_rw_b lo hi a
  unfold hr_K at no yes
  refine pk_le a b (fun q => ?_) (fun q => ?_)
  · exact hr_before hx hy hC rfl (fun e => br_t rfl (no (by omega))) (fun e => br_f n1 (yes (by omega))) (fun e => br_t rfl (no (by omega)))
  · exact hr_before hx hy hC rfl (fun e => br_f n1 (yes (by omega))) (fun e => br_f n1 (yes (by omega))) (fun e => br_t rfl (no (by omega)))
/-- runs of two rows, N columns or more -/
def hr_cn (N x y : Nat) : Nat := hr_sm 12 (fun c => hr_e N (c + 1) x y)
theorem hr_483 (hm : m ≤ 8) (hR : hr_R m (hr_rw lo hi) a1) (hB : hr_B m (hr_rw lo hi) bt a2 a3) (hC : C ≤ 12) (hN : 1 ≤ N) (hN2 : N ≤ 12) (ha : a < m)
    (H : ∀ bt b2 b3 b4 b5, hr_B m (hr_rw lo hi) bt b2 b3 → wL_law_615 post L xs J19 J453 lo hi (nI m) x7 x12 x13 (nI C) (nI N) (nI (M + hr_sm a (fun b => hr_cn N (hr_rw lo hi a) (hr_rw lo hi b)))) x17 x18 x19 (nI a) (nI (hr_rw lo hi a)) (nI (hr_sm m (fun b => if hr_K (hr_rw lo hi) C b < hr_K (hr_rw lo hi) C a then 1 else 0))) kc ks (nI m) bt a1 b2 b3 b4 b5) :
    ∃ n, wL_law_483 post L xs J19 J453 lo hi (nI m) x7 x12 x13 (nI C) (nI N) x17 x18 x19 (nI a) (nI (hr_rw lo hi a)) kc ks n (nI M) 0 0 (nI m) bt a1 a2 a3 a4 a5 := by
  refine pk_loop (σ := Nat × Nat × Int32 × (Nat → Int32) × (Nat → Int32) × (Nat → Int32) × (Nat → Int32)) (fun n b s => wL_law_483 post L xs J19 J453 lo hi (nI m) x7 x12 x13 (nI C) (nI N) x17 x18 x19 (nI a) (nI (hr_rw lo hi a)) kc ks n (nI s.1) (nI s.2.1) (nI b) (nI m) s.2.2.1 a1 s.2.2.2.1 s.2.2.2.2.1 s.2.2.2.2.2.1 s.2.2.2.2.2.2)
    (fun b s => s.1 = M + hr_sm (min b a) (fun b => hr_cn N (hr_rw lo hi a) (hr_rw lo hi b)) ∧ s.2.1 = hr_sm b (fun b => if hr_K (hr_rw lo hi) C b < hr_K (hr_rw lo hi) C a then 1 else 0) ∧ hr_B m (hr_rw lo hi) s.2.2.1 s.2.2.2.1 s.2.2.2.2.1) m 0 (M, 0, bt, a2, a3, a4, a5) (by omega) ⟨?_, rfl, hB⟩ ?_ ?_
  · rw [Nat.zero_min]
    rfl
  · intro n s h
    obtain ⟨M', P', bt', b2, b3, b4, b5⟩ := s
    obtain ⟨h1, h2, h3⟩ := h
    dsimp only at h1 h2 h3
    rw [show min m a = a by omega] at h1
    subst h1 h2
    have K := H bt' b2 b3 b4 b5 h3
    exact pk_le 8 m (fun _ => K) (fun _ => pk_le m m (fun _ => K) (fun z => absurd z (by omega)))
  · intro n b s hb h hw
    obtain ⟨M', P', bt', b2, b3, b4, b5⟩ := s
    obtain ⟨h1, h2, h3⟩ := h
    dsimp only at h1 h2 h3
    have go : ∀ (r : Int32) (M'' : Nat), M'' = M + hr_sm (min (b + 1) a) (fun b => hr_cn N (hr_rw lo hi a) (hr_rw lo hi b)) → r >>> ((8 : Int32) &&& 31) = nI (hr_b (hr_rw lo hi a) (hr_rw lo hi b) 12) →
        wL_law_540 post L xs J19 J453 (wL_law_483 post L xs J19 J453 lo hi (nI m) x7 x12 x13 (nI C) (nI N) x17 x18 x19 (nI a) (nI (hr_rw lo hi a)) kc ks n) lo hi (nI m) x7 x12 x13 (nI C) (nI N) x17 x18 x19 (nI a) (nI (hr_rw lo hi a)) (nI P') (nI b) (nI (hr_rw lo hi b)) r (nI M'') kc ks (nI m) bt' a1 b2 b3 b4 b5 := by
      intro r M'' e1 e2
      refine hr_540 hm hR h3 hC ha hb e2 (fun bt e2 e3 e4 e5 g => hw (_, _, bt, e2, e3, e4, e5) ⟨e1, ?_, g⟩)
      rw [h2]
      rfl
    refine pk_le 8 b (fun z => absurd z (by omega)) (fun _ => ?_)
    refine pk_le m b (fun z => absurd z (by omega)) (fun _ => ?_)
    refine hr_Lpart (by omega) ?_
    refine hr_runs (hr_rw_b lo hi a) (hr_rw_b lo hi b) hN hN2 (fun r r1 r2 => ?_)
    refine pk_le a b (fun q => go r M' ?_ r2) (fun q => ?_)
    · rw [show min (b + 1) a = min b a by omega]
      exact h1
    · have e : nI M' + (r &&& 255) = nI (M' + hr_cn N (hr_rw lo hi a) (hr_rw lo hi b)) := by
        rw [r1, nI_add]
        rfl
      rw [e]
      refine go r _ ?_ r2
      rw [show min (b + 1) a = b + 1 by omega]
      rw [show min b a = b by omega] at h1
      show M' + hr_cn N (hr_rw lo hi a) (hr_rw lo hi b) = M + (hr_sm b (fun b => hr_cn N (hr_rw lo hi a) (hr_rw lo hi b)) + hr_cn N (hr_rw lo hi a) (hr_rw lo hi b))
      omega
theorem hr_xq {x q w : Nat} : (x ^^^ q) % 2 ^ w = 0 ↔ x % 2 ^ w = q % 2 ^ w := by
  constructor
  · intro h
    apply Nat.eq_of_testBit_eq
    intro i
    have e : ((x ^^^ q) % 2 ^ w).testBit i = (0 : Nat).testBit i := by rw [h]
    rw [Nat.testBit_mod_two_pow, Nat.testBit_xor, Nat.zero_testBit] at e
    rw [Nat.testBit_mod_two_pow, Nat.testBit_mod_two_pow]
    revert e
    cases decide (i < w) <;> cases x.testBit i <;> cases q.testBit i <;> decide
  · intro h
    apply Nat.eq_of_testBit_eq
    intro i
    have e : (x % 2 ^ w).testBit i = (q % 2 ^ w).testBit i := by rw [h]
    rw [Nat.testBit_mod_two_pow, Nat.testBit_mod_two_pow] at e
    rw [Nat.testBit_mod_two_pow, Nat.testBit_xor, Nat.zero_testBit]
    revert e
    cases decide (i < w) <;> cases x.testBit i <;> cases q.testBit i <;> decide
theorem hr_615 {Q W V : Nat} (hm : m ≤ 8) (hR : hr_R m (hr_rw lo hi) a1) (hB : hr_B m (hr_rw lo hi) bt a2 a3) (hC : C ≤ 12) (hW : W ≤ 12) (hQ : Q < 4096) (ha : a < m) (hP : P = hr_sm m (fun b => if hr_K (hr_rw lo hi) C b < hr_K (hr_rw lo hi) C a then 1 else 0)) (hPm : P < m)
    (H : ∀ bt b2 b3 b4 b5, hr_B m (hr_rw lo hi) bt b2 b3 → J453 (nI M) (nI (V + if hr_rw lo hi a / 2 ^ C % 2 ^ W = Q % 2 ^ W then 1 else 0)) (nI (a + 1)) (nI m) bt a1 b2 b3 b4 b5) :
    wL_law_615 post L xs J19 J453 lo hi (nI m) x7 x12 x13 (nI C) (nI N) (nI M) (nI Q) (nI V) (nI W) (nI a) (nI (hr_rw lo hi a)) (nI P) kc ks (nI m) bt a1 a2 a3 a4 a5 := by
  have hx := hr_rw_b lo hi a
  have hd := Nat.div_le_self (hr_rw lo hi a) (2 ^ C)
  have hxr : hr_rw lo hi a / 2 ^ C ^^^ Q < 2 ^ 12 := Nat.xor_lt_two_pow (by omega) (by omega)
  have hml := Nat.mod_le (hr_rw lo hi a / 2 ^ C ^^^ Q) (2 ^ W)
  have e : ((nI (hr_rw lo hi a) >>> (nI C &&& 31)) ^^^ nI Q) &&& (((1 : Int32) <<< (nI W &&& 31)) - 1) = nI ((hr_rw lo hi a / 2 ^ C ^^^ Q) % 2 ^ W) := by
    rw [hr_shr (by omega) (by omega), hr_xor, hr_mask (by omega), hr_mod _ _ (by omega) (by omega)]
  unfold wL_law_615 wL_law_642
  refine pk_eq ((hr_rw lo hi a / 2 ^ C ^^^ Q) % 2 ^ W) 0 (fun z => ?_) (fun z => ?_) e rfl (by omega) (by omega)
  · rw [if_pos (hr_xq.mp z)] at H
    refine hr_ordered hm hR hB hC ha hP hPm (fun bt' b2 b3 b4 b5 g => br_t rfl (nm_r (nI_1 a) ?_))
    rw [nI_1]
    exact H bt' b2 b3 b4 b5 (fun _ => g)
  · rw [if_neg (fun t => z (hr_xq.mpr t)), Nat.add_zero] at H
    exact hr_ordered hm hR hB hC ha hP hPm (fun bt' b2 b3 b4 b5 g => br_t rfl (nm_r (nI_1 a) (H bt' b2 b3 b4 b5 (fun _ => g))))
theorem hr_place_lt {m C a : Nat} {R : Nat → Nat} (ha : a < m) : hr_sm m (fun b => if hr_K R C b < hr_K R C a then 1 else 0) < m := by
  have h1 : hr_sm m (fun b => (if hr_K R C b < hr_K R C a then 1 else 0) + (if b = a then 1 else 0)) ≤ m := by
    refine hr_sm_le (fun b _ => ?_)
    by_cases e : b = a
    · rw [if_pos e, e, if_neg (Nat.lt_irrefl _)]
      exact Nat.le_refl _
    · rw [if_neg e]
      by_cases q : hr_K R C b < hr_K R C a
      · rw [if_pos q]
        exact Nat.le_refl _
      · rw [if_neg q]
        omega
  rw [hr_sm_add, hr_sm_ind ha] at h1
  omega
theorem hr_665 {Q W : Nat} (hm : m ≤ 8) (hR : hr_R m (hr_rw lo hi) a1) (hB : hr_B m (hr_rw lo hi) bt a2 a3) (hCW : C + W ≤ 12) (hQ : Q < 4096) (hN : 1 ≤ N) (hN2 : N ≤ 12) (hA : x12 = x13)
    (H : ∀ bt b2 b3 b4 b5, hr_B m (hr_rw lo hi) bt b2 b3 → J19 lo hi (nI m) (x7 + 2) (nI m) bt a1 b2 b3 b4 b5) :
    wL_law_665 post L xs J19 lo hi (nI m) x7 x12 x13 (nI C) (nI N) (nI (hr_sm m (fun a => hr_sm a (fun b => hr_cn N (hr_rw lo hi a) (hr_rw lo hi b))))) (nI Q) (nI (hr_sm m (fun a => if hr_rw lo hi a / 2 ^ C % 2 ^ W = Q % 2 ^ W then 1 else 0))) (nI W) kc ks (nI m) bt a1 a2 a3 a4 a5 := by
  have e : hr_sm 12 (fun c => hr_E m (hr_rw lo hi) N (c + 1)) = hr_sm m (fun a => hr_sm a (fun b => hr_cn N (hr_rw lo hi a) (hr_rw lo hi b))) := by
    unfold hr_E
    rw [hr_sm_swap 12 m (fun c a => hr_sm a (fun b => hr_e N (c + 1) (hr_rw lo hi a) (hr_rw lo hi b)))]
    exact hr_sm_cg (fun a _ => hr_sm_swap 12 a (fun c b => hr_e N (c + 1) (hr_rw lo hi a) (hr_rw lo hi b)))
  unfold wL_law_665 wpX_rows
  dsimp only
  refine br_t hA (br_t rfl ?_)
  refine hr_matches hm hR hB hN hN2 (fun bt' b2 b3 b4 b5 g => ?_)
  refine br_t (by rw [e]) ?_
  exact hr_having hm hR (fun _ => g) hCW hQ (fun bt'' c2 c3 c4 c5 g2 => br_t rfl (nm_e (H bt'' c2 c3 c4 c5 (fun _ => g2))))
theorem hr_453 {Q W : Nat} (hm : m ≤ 8) (hR : hr_R m (hr_rw lo hi) a1) (hB : hr_B m (hr_rw lo hi) bt a2 a3) (hCW : C + W ≤ 12) (hQ : Q < 4096) (hN : 1 ≤ N) (hN2 : N ≤ 12) (hA : x12 = x13)
    (H : ∀ bt b2 b3 b4 b5, hr_B m (hr_rw lo hi) bt b2 b3 → J19 lo hi (nI m) (x7 + 2) (nI m) bt a1 b2 b3 b4 b5) :
    ∃ n, wL_law_453 post L xs J19 lo hi (nI m) x7 x12 x13 (nI C) (nI N) (nI Q) (nI W) kc ks n 0 0 0 (nI m) bt a1 a2 a3 a4 a5 := by
  refine pk_loop (σ := Nat × Nat × Int32 × (Nat → Int32) × (Nat → Int32) × (Nat → Int32) × (Nat → Int32)) (fun n a s => wL_law_453 post L xs J19 lo hi (nI m) x7 x12 x13 (nI C) (nI N) (nI Q) (nI W) kc ks n (nI s.1) (nI s.2.1) (nI a) (nI m) s.2.2.1 a1 s.2.2.2.1 s.2.2.2.2.1 s.2.2.2.2.2.1 s.2.2.2.2.2.2)
    (fun a s => s.1 = hr_sm a (fun a => hr_sm a (fun b => hr_cn N (hr_rw lo hi a) (hr_rw lo hi b))) ∧ s.2.1 = hr_sm a (fun a => if hr_rw lo hi a / 2 ^ C % 2 ^ W = Q % 2 ^ W then 1 else 0) ∧ hr_B m (hr_rw lo hi) s.2.2.1 s.2.2.2.1 s.2.2.2.2.1) m 0 (0, 0, bt, a2, a3, a4, a5) (by omega) ⟨rfl, rfl, hB⟩ ?_ ?_
  · intro n s h
    obtain ⟨M', V', bt', b2, b3, b4, b5⟩ := s
    obtain ⟨h1, h2, h3⟩ := h
    dsimp only at h1 h2 h3
    subst h1 h2
    have K := hr_665 (post := post) (L := L) (xs := xs) (kc := kc) (ks := ks) (a4 := b4) (a5 := b5) hm hR h3 hCW hQ hN hN2 hA H
    exact pk_le 8 m (fun _ => K) (fun _ => pk_le m m (fun _ => K) (fun z => absurd z (by omega)))
  · intro n a s ha h hw
    obtain ⟨M', V', bt', b2, b3, b4, b5⟩ := s
    obtain ⟨h1, h2, h3⟩ := h
    dsimp only at h1 h2 h3
    refine pk_le 8 a (fun z => absurd z (by omega)) (fun _ => ?_)
    refine pk_le m a (fun z => absurd z (by omega)) (fun _ => ?_)
    refine hr_Lpart (by omega) ?_
    refine hr_483 hm hR h3 (by omega) hN hN2 ha (fun bt c2 c3 c4 c5 g => ?_)
    refine hr_615 hm hR g (by omega) (by omega) hQ ha rfl (hr_place_lt ha) (fun bt d2 d3 d4 d5 g2 => hw (_, _, bt, d2, d3, d4, d5) ⟨?_, ?_, g2⟩)
    · rw [h1]
      rfl
    · rw [h2]
      rfl
theorem hr_385 {x9 : Int32} (hm : m ≤ 8) (hR : hr_R m (hr_rw lo hi) a1) (hB : hr_B m (hr_rw lo hi) bt a2 a3) (hA : x12 = x13)
    (H : ∀ bt b2 b3 b4 b5, hr_B m (hr_rw lo hi) bt b2 b3 → J19 lo hi (nI m) (x7 + 2) (nI m) bt a1 b2 b3 b4 b5) :
    wL_law_385 post L xs J19 lo hi (nI m) x7 x9 x12 x13 kc ks (nI m) bt a1 a2 a3 a4 a5 := by
  obtain ⟨c, hc, ec⟩ := pk_andE (x9 >>> ((5 : Int32) &&& 31)) (m := 15) 4 (by decide)
  obtain ⟨n, hn, en⟩ := pk_andE (x9 >>> ((9 : Int32) &&& 31)) (m := 15) 4 (by decide)
  obtain ⟨q, hq, eq⟩ := pk_andE (x9 >>> ((4 : Int32) &&& 31)) (m := 4095) 12 (by decide)
  have e14 : ((x9 >>> ((5 : Int32) &&& 31)) &&& 15) - ((x9 >>> ((5 : Int32) &&& 31)) &&& 15) / 13 * 13 = nI (c % 13) := by
    rw [ec]
    exact pk_rem (d := 13) (by omega) (by omega) (by omega)
  have e15 : 1 + (((x9 >>> ((9 : Int32) &&& 31)) &&& 15) - ((x9 >>> ((9 : Int32) &&& 31)) &&& 15) / 12 * 12) = nI (1 + n % 12) := by
    rw [en, show nI n - nI n / 12 * 12 = nI (n % 12) from pk_rem (d := 12) (by omega) (by omega) (by omega)]
    exact nI_add 1 _
  have es : (12 : Int32) - nI (c % 13) = nI (12 - c % 13) := pk_sub (a := 12) (by omega)
  unfold wL_law_385
  refine ⟨by decide, nm_r e14 ⟨by decide, nm_r e15 (nm_r eq ?_)⟩⟩
  refine pk_le (1 + n % 12) (12 - c % 13) (fun z => ?_) (fun z => nm_r es ?_) rfl es (by omega) (by omega)
  · exact hr_453 hm hR hB (by omega) (by omega) (by omega) (by omega) hA H
  · exact hr_453 hm hR hB (by omega) (by omega) (by omega) (by omega) hA H
end
end
section
/-- the next turn takes every state that matches -/
def hr_N (J19 : Int64 → Int64 → Int32 → Int32 → Int32 → Int32 → (Nat → Int32) → (Nat → Int32) → (Nat → Int32) → (Nat → Int32) → (Nat → Int32) → Prop) (x7 : Int32) : Prop :=
  ∀ (lo hi : Int64) (m : Nat) (bt : Int32) (a1 a2 a3 a4 a5 : Nat → Int32), m ≤ 8 → hr_R m (hr_rw lo hi) a1 → hr_B m (hr_rw lo hi) bt a2 a3 → J19 lo hi (nI m) (x7 + 2) (nI m) bt a1 a2 a3 a4 a5
theorem hr_R_up {m m' r v k : Nat} {R R' : Nat → Nat} {a1 : Nat → Int32} (hR : hr_R m R a1) (hm : m' ≤ 8) (h : ∀ j, j < m' → ¬ j = r → j < m) (hk : k = r) (hv : v < 4096) (e : ∀ j, j < 8 → R' j = if j = r then v else R j) : hr_R m' R' (upd a1 k (nI v)) := by
  intro j hj
  rw [e j (by omega), hk]
  by_cases q : j = r
  · rw [if_pos q, q, pk_us]
    exact ⟨hv, rfl⟩
  · rw [if_neg q, pk_un q]
    exact hR j (h j hj q)
theorem hr_B_0 {m : Nat} {R : Nat → Nat} {a2 a3 : Nat → Int32} : hr_B m R 0 a2 a3 := fun z => absurd rfl z
section
variable {post : Int32 → Prop} {L : Nat} {xs : Nat → Int32}
  {J19 : Int64 → Int64 → Int32 → Int32 → Int32 → Int32 → (Nat → Int32) → (Nat → Int32) → (Nat → Int32) → (Nat → Int32) → (Nat → Int32) → Prop}
  {lo hi : Int64} {x7 x9 x11 x12 x13 x14 bt : Int32} {kc ks : Nat} {a1 a2 a3 a4 a5 : Nat → Int32} {m : Nat}
theorem hr_385n (hJ : hr_N J19 x7) (hm : m ≤ 8) (hR : hr_R m (hr_rw lo hi) a1) (hB : hr_B m (hr_rw lo hi) bt a2 a3) (hA : x12 = x13) : wL_law_385 post L xs J19 lo hi (nI m) x7 x9 x12 x13 kc ks (nI m) bt a1 a2 a3 a4 a5 :=
  hr_385 hm hR hB hA (fun bt b2 b3 b4 b5 g => hJ lo hi m bt a1 b2 b3 b4 b5 hm hR g)
theorem hr_145n (hJ : hr_N J19 x7) (hm : m ≤ 8) (hR : hr_R m (hr_rw lo hi) a1) (hB : hr_B m (hr_rw lo hi) bt a2 a3) (h0 : x13 < 0) (h3 : x13 ≤ 3) : wL_law_145 post L xs J19 lo hi (nI m) x7 x9 x13 x14 x13 kc ks (nI m) bt a1 a2 a3 a4 a5 := by
  unfold wL_law_145 wL_law_169 wL_law_170 wL_law_191 wL_law_207
  exact br_t h0 (br_t h3 (br_t h0 (hr_385n hJ hm hR hB rfl)))
theorem hr_145p {v k : Nat} (hJ : hr_N J19 x7) (hm : m < 8) (hv : v < 4096) (hk : k = m) (hR : hr_R m (hr_rw lo hi) a1) : wL_law_145 post L xs J19 lo hi (nI m) x7 x9 (nI (m + 1) - 1) (nI v) (nI m) kc ks (nI (m + 1)) 0 (upd a1 k (nI v)) a2 a3 a4 a5 := by
  have hp : ¬ nI m < 0 := nI_pos (by omega)
  have hA : nI (m + 1) - 1 = nI m := nI_pred m
  unfold wL_law_145 wL_law_169 wL_law_170 wL_law_191 wL_law_207
  rw [nI_1]
  refine br_f hp (pk_le 4 m (fun z => ?_) (fun z => ?_))
  · refine pk_le m 3 (fun w => absurd w (by omega)) (fun _ => hr_Lwith hm (br_f hp ?_))
    exact hr_385n hJ (by omega) (hr_R_up hR (by omega) (fun j h1 h2 => by omega) hk hv (fun j hj => hr_rw_hi z hm hv hj)) hr_B_0 hA
  · refine hr_Lwith hm (pk_le m 3 (fun _ => br_f hp ?_) (fun w => absurd w (by omega)))
    exact hr_385n hJ (by omega) (hr_R_up hR (by omega) (fun j h1 h2 => by omega) hk hv (fun j hj => hr_rw_lo z hv hj)) hr_B_0 hA
theorem hr_109 {v : Nat} {z0 : Int32} (hJ : hr_N J19 x7) (hm : m ≤ 8) (hR : hr_R m (hr_rw lo hi) a1) (hB : hr_B m (hr_rw lo hi) bt a2 a3) (hv : v < 8192) (hz : z0 = nI v) : wL_law_109 post L xs J19 lo hi (nI m) x7 x9 z0 kc ks (nI m) bt a1 a2 a3 a4 a5 := by
  subst hz
  unfold wL_law_109 wpX_add
  dsimp only
  refine br_f (nI_pos (by omega)) (pk_le v 4095 (fun z => pk_eq m 8 (fun e => ?_) (fun e => ?_)) (fun z => ?_))
  · exact pk_le v 4095 (fun _ => pk_eq m 8 (fun _ => hr_145n hJ hm hR hB (by decide) (by decide)) (fun w => absurd e w)) (fun w => absurd z (by omega))
  · refine ⟨pk_in m 8 (by omega), nm_e (nm_r (nI_1 m) ?_)⟩
    exact pk_le v 4095 (fun _ => pk_eq m 8 (fun w => absurd w e) (fun _ => hr_145p hJ (by omega) (by omega) (nI_clamp (by omega)) hR)) (fun w => absurd z (by omega))
  · exact pk_le v 4095 (fun w => absurd w (by omega)) (fun _ => hr_145n hJ hm hR hB (by decide) (by decide))
theorem hr_304n {x10 : Int32} (hJ : hr_N J19 x7) (hm : m ≤ 8) (hR : hr_R m (hr_rw lo hi) a1) (hB : hr_B m (hr_rw lo hi) bt a2 a3) : wL_law_304 post L xs J19 lo hi (nI m) x7 x9 x10 x11 (-4) x14 0 kc ks (nI m) bt a1 a2 a3 a4 a5 := by
  unfold wL_law_304 wL_law_332 wL_law_356 wL_law_357 wL_law_381 wL_law_383
  exact nm_e (br_t rfl (br_t rfl (br_t rfl (hr_385n hJ hm hR hB rfl))))
theorem hr_304p {r c v k : Nat} (hJ : hr_N J19 x7) (hm : m ≤ 8) (hr : r < m) (hc : c < 12) (hv : v = hr_rw lo hi r ^^^ 2 ^ c) (hk : k = r) (hR : hr_R m (hr_rw lo hi) a1) : wL_law_304 post L xs J19 lo hi (nI m) x7 x9 (nI r) (nI c) (nI (v.testBit c).toNat) (nI (hr_rw lo hi r)) 1 kc ks (nI m) 0 (upd a1 k (nI v)) a2 a3 a4 a5 := by
  have n1 : ¬ (1 : Int32) = 0 := by decide
  have h2 : 2 ^ c < 2 ^ 12 := Nat.pow_lt_pow_right (by omega) hc
  have hb := hr_rw_b lo hi r
  have hv4 : v < 2 ^ 12 := by
    rw [hv]
    exact Nat.xor_lt_two_pow hb h2
  have e16 : nI (hr_rw lo hi r) ^^^ ((1 : Int32) <<< (nI c &&& 31)) = nI v := by
    rw [hr_one (by omega), hr_xor, hv]
  have eb : (nI v >>> (nI c &&& 31)) &&& 1 = nI (v.testBit c).toNat := hr_bit (by omega) (by omega)
  unfold wL_law_304 wL_law_332 wL_law_356 wL_law_357 wL_law_381 wL_law_383
  refine nm_r e16 ?_
  rw [eb]
  refine br_f n1 (br_f n1 (pk_le 4 r (fun z => ?_) (fun z => ?_)))
  · refine br_f n1 (pk_le r 3 (fun w => absurd w (by omega)) (fun _ => hr_Lwith (by omega) ?_))
    exact hr_385n hJ hm (hr_R_up hR hm (fun j h1 _ => h1) hk hv4 (fun j hj => hr_rw_hi z (by omega) hv4 hj)) hr_B_0 rfl
  · refine hr_Lwith (by omega) (br_f n1 (pk_le r 3 (fun _ => ?_) (fun w => absurd w (by omega))))
    exact hr_385n hJ hm (hr_R_up hR hm (fun j h1 _ => h1) hk hv4 (fun j hj => hr_rw_lo z hv4 hj)) hr_B_0 rfl
end
theorem hr_19 {post : Int32 → Prop} {L : Nat} {xs : Nat → Int32} {kc ks : Nat} {lo hi : Int64} {m : Nat} {bt : Int32} {a1 a2 a3 a4 a5 : Nat → Int32} (hL : L ≤ 260) (hp : post 1) (hm : m ≤ 8) (hR : hr_R m (hr_rw lo hi) a1) (hB : hr_B m (hr_rw lo hi) bt a2 a3) :
    ∃ n, wL_law_19 post L xs kc ks n lo hi (nI m) (nI (2 * 0)) (nI m) bt a1 a2 a3 a4 a5 := by
  refine pk_loop (σ := Int64 × Int64 × Nat × Int32 × (Nat → Int32) × (Nat → Int32) × (Nat → Int32) × (Nat → Int32) × (Nat → Int32)) (fun n i s => wL_law_19 post L xs kc ks n s.1 s.2.1 (nI s.2.2.1) (nI (2 * i)) (nI s.2.2.1) s.2.2.2.1 s.2.2.2.2.1 s.2.2.2.2.2.1 s.2.2.2.2.2.2.1 s.2.2.2.2.2.2.2.1 s.2.2.2.2.2.2.2.2)
    (fun i s => s.2.2.1 ≤ 8 ∧ hr_R s.2.2.1 (hr_rw s.1 s.2.1) s.2.2.2.2.1 ∧ hr_B s.2.2.1 (hr_rw s.1 s.2.1) s.2.2.2.1 s.2.2.2.2.2.1 s.2.2.2.2.2.2.1) (L / 2) 0 (lo, hi, m, bt, a1, a2, a3, a4, a5) (by omega) ⟨hm, hR, hB⟩ ?_ ?_
  · intro n s h
    exact pk_le L (2 * (L / 2) + 1) (fun _ => hp) (fun z => absurd z (by omega)) rfl (nI_1 _) (by omega) (by omega)
  · intro n i s hi h hw
    obtain ⟨lo, hh, m, bt, a1, a2, a3, a4, a5⟩ := s
    obtain ⟨hm, hR, hB⟩ := h
    dsimp only at hm hR hB
    have hJ : hr_N (wL_law_19 post L xs kc ks n) (nI (2 * i)) := by
      intro lo hh m bt a1 a2 a3 a4 a5 h1 h2 h3
      rw [show nI (2 * i) + 2 = nI (2 * (i + 1)) from nI_add (2 * i) 2]
      exact hw (lo, hh, m, bt, a1, a2, a3, a4, a5) ⟨h1, h2, h3⟩
    have n1 : ¬ (1 : Int32) = 0 := by decide
    obtain ⟨o, ho, eo⟩ := pk_andE (xs (nI (2 * i)).toNatClampNeg) (m := 15) 4 (by decide)
    refine pk_le L (2 * i + 1) (fun z => absurd z (by omega)) (fun _ => ⟨pk_in (2 * i) L (by omega), nm_r eo ⟨pk_in (2 * i + 1) L (by omega) (nI_1 _), fun x9 _ => ?_⟩⟩) rfl (nI_1 _) (by omega) (by omega)
    obtain ⟨r, hr, er⟩ := pk_andE x9 (m := 7) 3 (by decide)
    obtain ⟨c, hc, ec⟩ := pk_andE (x9 >>> ((3 : Int32) &&& 31)) (m := 15) 4 (by decide)
    obtain ⟨v, hv, ev⟩ := pk_andE (x9 >>> ((3 : Int32) &&& 31)) (m := 8191) 13 (by decide)
    obtain ⟨w, hw2, ew⟩ := pk_andE ((x9 >>> ((3 : Int32) &&& 31)) &&& (x9 >>> ((9 : Int32) &&& 31))) (m := 4095) 12 (by decide)
    refine nm_r er (nm_r ec ?_)
    refine pk_le 8 o (fun _ => pk_le 10 o (fun _ => ?_) (fun _ => ?_)) (fun _ => ?_)
    · unfold wpX_turn
      dsimp only
      unfold wpX_noRow
      dsimp only
      refine br_f (nI_pos (by omega)) (pk_lt r m (fun z => ?_) (fun z => ?_))
      · refine br_t rfl (br_f (nI_pos (by omega)) (pk_lt c 12 (fun t => ?_) (fun t => ?_)))
        · have hb := hr_rw_b lo hh r
          have h2 : 2 ^ c < 2 ^ 12 := Nat.pow_lt_pow_right (by omega) t
          have hv4 : hr_rw lo hh r ^^^ 2 ^ c < 2 ^ 12 := Nat.xor_lt_two_pow hb h2
          have ea : upd a1 (nI r).toNatClampNeg ((a1 (nI r).toNatClampNeg) ^^^ ((1 : Int32) <<< (nI c &&& 31))) = upd a1 r (nI (hr_rw lo hh r ^^^ 2 ^ c)) := by
            rw [nI_clamp (by omega), (hR r z).2, hr_one (by omega), hr_xor]
          have hR2 : hr_R m (hr_up (hr_rw lo hh) r (hr_rw lo hh r ^^^ 2 ^ c)) (upd a1 r (nI (hr_rw lo hh r ^^^ 2 ^ c))) := hr_R_up hR hm (fun j h1 _ => h1) rfl hv4 (fun j _ => rfl)
          refine ⟨pk_in r 8 (by omega), pk_in r 8 (by omega), nm_r ea (hr_at hm hR2 z (by omega) ?_)⟩
          rw [hr_us]
          refine hr_Lpart (by omega) (pk_le m r (fun q => absurd q (by omega)) (fun _ => pk_le 12 c (fun q => absurd q (by omega)) (fun _ => ?_)))
          exact hr_304p hJ hm z t rfl rfl hR
        · exact hr_Lpart (by omega) (pk_le m r (fun q => absurd q (by omega)) (fun _ => pk_le 12 c (fun _ => hr_304n hJ hm hR hB) (fun q => absurd q (by omega))))
      · refine br_f n1 (hr_Lpart (by omega) (pk_le m r (fun _ => hr_304n hJ hm hR hB) (fun q => absurd q (by omega))))
    · unfold wpX_remove
      dsimp only
      unfold wL_law_245 wL_law_260
      refine pk_eq m 0 (fun e => ?_) (fun e => ?_)
      · refine pk_eq m 0 (fun _ => pk_eq m 0 (fun _ => ?_) (fun q => absurd e q)) (fun q => absurd e q)
        subst e
        exact hr_385n hJ hm hR hB rfl
      · have em : nI m - 1 = nI (m - 1) := pk_sub (b := 1) (by omega)
        refine nm_r em ⟨pk_in (m - 1) 8 (by omega), pk_eq m 0 (fun q => absurd q e) (fun _ => ?_)⟩
        rw [em]
        refine hr_Lpart (by omega) (pk_eq m 0 (fun q => absurd q e) (fun _ => ?_))
        refine hr_385n hJ (by omega) (fun j hj => hR j (by omega)) hr_B_0 ?_
        rw [nI_clamp (by omega)]
        exact (hR (m - 1) (by omega)).2
    · exact br_c (fun _ => hr_109 hJ hm hR hB hv ev) (fun _ => hr_109 hJ hm hR hB (by omega) ew)
end
section
theorem i_vc (xs : Nat → Int32) (L : Nat) (hL : L ≤ 260) : wpL_law (fun r => r = 1) L xs :=
  ⟨5, 232, by omega, by omega, by omega, by omega, by omega, by omega, by omega, by omega, by omega, by omega, by omega, by omega,
    hr_19 (m := 0) (lo := 0) (hi := 0) hL rfl (by omega) (fun j h => absurd h (by omega)) hr_B_0⟩
end
