section
/-! places of p (base 128: at + 16 done, four threads) and of m (base 4, nine places) -/
def sq_A (p t : Nat) : Nat := p / 128 ^ t % 16
def sq_D (p t : Nat) : Nat := p / 128 ^ t / 16 % 8
def sq_C (m j : Nat) : Nat := m / 4 ^ j % 4
theorem sq_t4 {t : Nat} (h : t < 4) : t = 0 ∨ t = 1 ∨ t = 2 ∨ t = 3 := by omega
theorem sq_A16 (p t : Nat) : sq_A p t < 16 := Nat.mod_lt _ (by decide)
theorem sq_D8 (p t : Nat) : sq_D p t < 8 := Nat.mod_lt _ (by decide)
theorem sq_C4 (m j : Nat) : sq_C m j < 4 := Nat.mod_lt _ (by decide)
theorem sq_A0 (t : Nat) : sq_A 0 t = 0 := by simp [sq_A]
theorem sq_D0 (t : Nat) : sq_D 0 t = 0 := by simp [sq_D]
theorem sq_C0 (t : Nat) : sq_C 0 t = 0 := by simp [sq_C]
theorem sq_A_go {p t s : Nat} (ht : t < 4) (hs : s < 4) (h : sq_A p t < 15) : sq_A (p + 128 ^ t) s = if s = t then sq_A p t + 1 else sq_A p s := by
  rcases sq_t4 ht with rfl | rfl | rfl | rfl <;> rcases sq_t4 hs with rfl | rfl | rfl | rfl <;> simp [sq_A] at h ⊢ <;> omega
theorem sq_D_go {p t s : Nat} (ht : t < 4) (hs : s < 4) (h : sq_A p t < 15) : sq_D (p + 128 ^ t) s = sq_D p s := by
  rcases sq_t4 ht with rfl | rfl | rfl | rfl <;> rcases sq_t4 hs with rfl | rfl | rfl | rfl <;> simp [sq_A, sq_D] at h ⊢ <;> omega
theorem sq_A_re {p t s : Nat} (ht : t < 4) (hs : s < 4) (h : sq_D p t < 7) : sq_A (p + 16 * 128 ^ t) s = sq_A p s := by
  rcases sq_t4 ht with rfl | rfl | rfl | rfl <;> rcases sq_t4 hs with rfl | rfl | rfl | rfl <;> simp [sq_A, sq_D] at h ⊢ <;> omega
theorem sq_D_re {p t s : Nat} (ht : t < 4) (hs : s < 4) (h : sq_D p t < 7) : sq_D (p + 16 * 128 ^ t) s = if s = t then sq_D p t + 1 else sq_D p s := by
  rcases sq_t4 ht with rfl | rfl | rfl | rfl <;> rcases sq_t4 hs with rfl | rfl | rfl | rfl <;> simp [sq_D] at h ⊢ <;> omega
theorem sq_p_go {p t : Nat} (ht : t < 4) (hp : p < 268435456) (h : sq_A p t < 15) : p + 128 ^ t < 268435456 := by
  rcases sq_t4 ht with rfl | rfl | rfl | rfl <;> simp [sq_A] at h ⊢ <;> omega
theorem sq_p_re {p t : Nat} (ht : t < 4) (hp : p < 268435456) (h : sq_D p t < 7) : p + 16 * 128 ^ t < 268435456 := by
  rcases sq_t4 ht with rfl | rfl | rfl | rfl <;> simp [sq_D] at h ⊢ <;> omega
theorem sq_p_ext {p q : Nat} (hp : p < 268435456) (hq : q < 268435456) (hA : ∀ t, t < 4 → sq_A p t = sq_A q t) (hD : ∀ t, t < 4 → sq_D p t = sq_D q t) : p = q := by
  have a0 := hA 0 (by omega)
  have a1 := hA 1 (by omega)
  have a2 := hA 2 (by omega)
  have a3 := hA 3 (by omega)
  have d0 := hD 0 (by omega)
  have d1 := hD 1 (by omega)
  have d2 := hD 2 (by omega)
  have d3 := hD 3 (by omega)
  simp [sq_A, sq_D] at a0 a1 a2 a3 d0 d1 d2 d3
  omega
theorem sq_lowD (q : Nat) : q % 16 ||| ((q / 16 % 8) <<< 4) = q % 128 := by
  rw [Nat.or_comm, ← Nat.shiftLeft_add_eq_or_of_lt (show q % 16 < 2 ^ 4 from Nat.mod_lt _ (by decide)), Nat.shiftLeft_eq]
  omega
theorem sq_acc (P : Nat) {k : Nat} (hk : k < 4) : (P % 128 ^ k) ||| ((sq_A P k ||| (sq_D P k <<< 4)) <<< (7 * k)) = P % 128 ^ (k + 1) := by
  unfold sq_A sq_D
  rw [sq_lowD]
  have hb : P % 128 ^ k < 2 ^ (7 * k) := by
    rw [Nat.pow_mul]
    exact Nat.mod_lt _ (Nat.pow_pos (by decide))
  rw [Nat.or_comm, ← Nat.shiftLeft_add_eq_or_of_lt hb, Nat.shiftLeft_eq]
  rcases sq_t4 hk with rfl | rfl | rfl | rfl <;> simp <;> omega
theorem sq_C_b (m j : Nat) : sq_C m j = (m >>> (2 * j)) &&& 3 := by
  unfold sq_C
  rw [Nat.shiftRight_eq_div_pow, Nat.pow_mul, show (3 : Nat) = 2 ^ 2 - 1 from rfl, Nat.and_two_pow_sub_one_eq_mod]
theorem sq_C_or (a b j : Nat) : sq_C (a ||| b) j = sq_C a j ||| sq_C b j := by
  rw [sq_C_b, sq_C_b, sq_C_b, Nat.shiftRight_or_distrib, Nat.and_or_distrib_right]
theorem sq_C_and (a b j : Nat) : sq_C (a &&& b) j = sq_C a j &&& sq_C b j := by
  rw [sq_C_b, sq_C_b, sq_C_b, Nat.shiftRight_and_distrib]
  rw [show (a >>> (2 * j) &&& 3) &&& (b >>> (2 * j) &&& 3) = (a >>> (2 * j) &&& b >>> (2 * j)) &&& (3 &&& 3) by
    rw [Nat.and_assoc, ← Nat.and_assoc 3, Nat.and_comm 3 (b >>> (2 * j)), Nat.and_assoc (b >>> (2 * j)), ← Nat.and_assoc], Nat.and_self]
theorem sq_C_shl : ∀ v, v < 4 → ∀ l, l < 9 → ∀ j, j < 9 → sq_C (v <<< (2 * l)) j = if j = l then v else 0 := by decide +kernel
theorem sq_C_msk : ∀ l, l < 9 → ∀ j, j < 9 → sq_C (4294967295 ^^^ (3 <<< (2 * l))) j = if j = l then 0 else 3 := by decide +kernel
def sq_or (m l v : Nat) : Nat := m ||| (v <<< (2 * l))
def sq_set (m l v : Nat) : Nat := (m &&& (4294967295 ^^^ (3 <<< (2 * l)))) ||| (v <<< (2 * l))
theorem sq_and3 : ∀ x, x < 4 → x &&& 3 = x := by decide
theorem sq_C_orD {m l v j : Nat} (hl : l < 9) (hv : v < 4) (hj : j < 9) : sq_C (sq_or m l v) j = if j = l then sq_C m j ||| v else sq_C m j := by
  unfold sq_or
  rw [sq_C_or, sq_C_shl v hv l hl j hj]
  by_cases e : j = l
  · rw [if_pos e, if_pos e]
  · rw [if_neg e, if_neg e, Nat.or_zero]
theorem sq_C_setD {m l v j : Nat} (hl : l < 9) (hv : v < 4) (hj : j < 9) : sq_C (sq_set m l v) j = if j = l then v else sq_C m j := by
  unfold sq_set
  rw [sq_C_or, sq_C_and, sq_C_shl v hv l hl j hj, sq_C_msk l hl j hj]
  by_cases e : j = l
  · rw [if_pos e, if_pos e, if_pos e, Nat.and_zero, Nat.zero_or]
  · rw [if_neg e, if_neg e, if_neg e, sq_and3 _ (sq_C4 m j), Nat.or_zero]
theorem sq_shl18 : ∀ v, v < 4 → ∀ l, l < 9 → v <<< (2 * l) < 2 ^ 18 := by decide +kernel
theorem sq_or_lt {m l v : Nat} (hm : m < 262144) (hl : l < 9) (hv : v < 4) : sq_or m l v < 262144 :=
  Nat.or_lt_two_pow (n := 18) hm (sq_shl18 v hv l hl)
theorem sq_set_lt {m l v : Nat} (hm : m < 262144) (hl : l < 9) (hv : v < 4) : sq_set m l v < 262144 :=
  Nat.or_lt_two_pow (n := 18) (Nat.lt_of_le_of_lt Nat.and_le_left hm) (sq_shl18 v hv l hl)
theorem sq_m_ext {m q : Nat} (hm : m < 262144) (hq : q < 262144) (h : ∀ j, j < 9 → sq_C m j = sq_C q j) : m = q := by
  have c0 := h 0 (by omega)
  have c1 := h 1 (by omega)
  have c2 := h 2 (by omega)
  have c3 := h 3 (by omega)
  have c4 := h 4 (by omega)
  have c5 := h 5 (by omega)
  have c6 := h 6 (by omega)
  have c7 := h 7 (by omega)
  have c8 := h 8 (by omega)
  simp [sq_C] at c0 c1 c2 c3 c4 c5 c6 c7 c8
  omega
/-! the same over Int32 -/
theorem sq_nor (a b : Nat) : nI a ||| nI b = nI (a ||| b) := by
  apply Int32.toBitVec_inj.1
  show BitVec.ofNat 32 a ||| BitVec.ofNat 32 b = BitVec.ofNat 32 (a ||| b)
  apply BitVec.eq_of_getLsbD_eq
  intro i hi
  simp [hi]
theorem sq_nand (a b : Nat) : nI a &&& nI b = nI (a &&& b) := by
  apply Int32.toBitVec_inj.1
  show BitVec.ofNat 32 a &&& BitVec.ofNat 32 b = BitVec.ofNat 32 (a &&& b)
  apply BitVec.eq_of_getLsbD_eq
  intro i hi
  simp [hi]
theorem sq_nxor (a b : Nat) : nI a ^^^ nI b = nI (a ^^^ b) := by
  apply Int32.toBitVec_inj.1
  show BitVec.ofNat 32 a ^^^ BitVec.ofNat 32 b = BitVec.ofNat 32 (a ^^^ b)
  apply BitVec.eq_of_getLsbD_eq
  intro i hi
  simp [hi]
theorem sq_sl : ∀ n, n < 32 → ((nI n &&& 31).toBitVec.smod 32).toNat = n := by decide +kernel
theorem sq_shr {m s : Nat} (hm : m < 2 ^ 31) (hs : s < 32) : nI m >>> (nI s &&& 31) = nI (m / 2 ^ s) := pk_shrN hm _ s (sq_sl s hs)
theorem sq_shl {m s : Nat} (hs : s < 32) (hm : m * 2 ^ s < 2 ^ 32) : nI m <<< (nI s &&& 31) = nI (m <<< s) := by
  rw [pk_shlN _ s (sq_sl s hs) hm, Nat.shiftLeft_eq]
theorem sq_get {m j : Nat} {s : Int32} (hm : m < 2 ^ 31) (hj : j < 16) (hs : s = nI (2 * j)) : (nI m >>> (s &&& 31)) &&& 3 = nI (sq_C m j) := by
  rw [hs, sq_shr hm (by omega), pk_andN (k := 2) (Nat.lt_of_le_of_lt (Nat.div_le_self _ _) (by omega)) (by decide)]
  unfold sq_C
  rw [Nat.pow_mul]
theorem sq_6x (x : Nat) : (12 : Int32) + 2 * nI x = nI (2 * (6 + x)) := by
  show nI 12 + nI 2 * nI x = _
  rw [pk_mul, nI_add]
  congr 1
  omega
theorem sq_2x (x : Nat) : (2 : Int32) * nI x = nI (2 * x) := by
  show nI 2 * nI x = _
  rw [pk_mul]
theorem sq_7x (x : Nat) : (7 : Int32) * nI x = nI (7 * x) := by
  show nI 7 * nI x = _
  rw [pk_mul]
theorem sq_7x4 (x : Nat) : (7 : Int32) * nI x + 4 = nI (7 * x + 4) := by
  show nI 7 * nI x + nI 4 = _
  rw [pk_mul, nI_add]
theorem sq_12x (t i : Nat) : nI t * 12 + nI i = nI (t * 12 + i) := by
  show nI t * nI 12 + nI i = _
  rw [pk_mul, nI_add]
theorem sq_6t (t i : Nat) : nI t * 6 + nI i = nI (t * 6 + i) := by
  show nI t * nI 6 + nI i = _
  rw [pk_mul, nI_add]
theorem sq_setI {m l v : Nat} {s : Int32} (hl : l < 9) (hv : v < 4) (hs : s = nI (2 * l)) : (nI m &&& (((3 : Int32) <<< (s &&& 31)) ^^^ (-1))) ||| (nI v <<< (s &&& 31)) = nI (sq_set m l v) := by
  have h3 : ∀ l, l < 9 → 3 * 2 ^ (2 * l) < 2 ^ 32 ∧ 4 * 2 ^ (2 * l) < 2 ^ 32 := by decide
  have h4 : v * 2 ^ (2 * l) < 2 ^ 32 := Nat.lt_of_le_of_lt (Nat.mul_le_mul_right _ (Nat.le_of_lt hv)) (h3 l hl).2
  rw [hs]
  show (nI m &&& ((nI 3 <<< (nI (2 * l) &&& 31)) ^^^ nI 4294967295)) ||| _ = _
  rw [sq_shl (by omega) (h3 l hl).1, sq_shl (by omega) h4, sq_nxor, sq_nand, sq_nor, Nat.xor_comm]
  rfl
theorem sq_orI {m l v : Nat} {s : Int32} (hl : l < 9) (hv : v < 4) (hs : s = nI (2 * l)) : nI m ||| (nI v <<< (s &&& 31)) = nI (sq_or m l v) := by
  have h3 : ∀ l, l < 9 → 3 * 2 ^ (2 * l) < 2 ^ 32 ∧ 4 * 2 ^ (2 * l) < 2 ^ 32 := by decide
  have h4 : v * 2 ^ (2 * l) < 2 ^ 32 := Nat.lt_of_le_of_lt (Nat.mul_le_mul_right _ (Nat.le_of_lt hv)) (h3 l hl).2
  rw [hs, sq_shl (by omega) h4, sq_nor]
  rfl
theorem sq_AI {p t : Nat} (hp : p < 268435456) (ht : t < 4) : (nI p >>> ((7 * nI t) &&& 31)) &&& 15 = nI (sq_A p t) := by
  rw [sq_7x, sq_shr (by omega) (by omega), pk_andN (k := 4) (Nat.lt_of_le_of_lt (Nat.div_le_self _ _) (by omega)) (by decide)]
  unfold sq_A
  rw [Nat.pow_mul]
theorem sq_DI {p t : Nat} (hp : p < 268435456) (ht : t < 4) : (nI p >>> (((7 * nI t) + 4) &&& 31)) &&& 7 = nI (sq_D p t) := by
  rw [sq_7x4, sq_shr (by omega) (by omega), pk_andN (k := 3) (Nat.lt_of_le_of_lt (Nat.div_le_self _ _) (by omega)) (by decide)]
  unfold sq_D
  rw [Nat.pow_add, Nat.pow_mul, ← Nat.div_div_eq_div_mul]
theorem sq_accI {P t : Nat} (ht : t < 4) : nI (P % 128 ^ t) ||| ((nI (sq_A P t) ||| (nI (sq_D P t) <<< ((4 : Int32) &&& 31))) <<< ((7 * nI t) &&& 31)) = nI (P % 128 ^ (t + 1)) := by
  have hA := sq_A16 P t
  have hD := sq_D8 P t
  have e1 : nI (sq_D P t) <<< ((4 : Int32) &&& 31) = nI (sq_D P t <<< 4) := sq_shl (s := 4) (by omega) (by omega)
  have hx : sq_A P t ||| (sq_D P t <<< 4) < 128 := by
    have := sq_lowD (P / 128 ^ t)
    unfold sq_A sq_D
    rw [this]
    exact Nat.mod_lt _ (by decide)
  have h3 : ∀ t, t < 4 → 128 * 2 ^ (7 * t) < 2 ^ 32 := by decide
  rw [e1, sq_nor, sq_7x, sq_shl (by omega) (Nat.lt_of_le_of_lt (Nat.mul_le_mul_right _ (Nat.le_of_lt hx)) (h3 t ht)), sq_nor, sq_acc P ht]
end
section
/-! a program under trial: lengths, kinds, variables, values, load numbers; the machine's states (p, m) -/
abbrev sq_P : Type := (Nat → Nat) × (Nat → Nat → Nat) × (Nat → Nat → Nat) × (Nat → Nat → Nat) × (Nat → Nat → Nat)
abbrev sq_n (P : sq_P) : Nat → Nat := P.1
abbrev sq_K (P : sq_P) : Nat → Nat → Nat := P.2.1
abbrev sq_V (P : sq_P) : Nat → Nat → Nat := P.2.2.1
abbrev sq_W (P : sq_P) : Nat → Nat → Nat := P.2.2.2.1
abbrev sq_N (P : sq_P) : Nat → Nat → Nat := P.2.2.2.2
abbrev sq_S : Type := Nat × Nat
def sq_cnt (k : Nat → Nat) : Nat → Nat
  | 0 => 0
  | i + 1 => sq_cnt k i + (if k i = 0 then 1 else 0)
def sq_six (k : Nat → Nat) (r : Nat) : Nat → Nat
  | 0 => 0
  | n + 1 => if k n = 0 ∧ sq_cnt k n = r then n else sq_six k r n
theorem sq_cnt_s {k : Nat → Nat} {i : Nat} (h : k i = 0) : sq_cnt k (i + 1) = sq_cnt k i + 1 := by
  show sq_cnt k i + (if k i = 0 then 1 else 0) = _
  rw [if_pos h]
theorem sq_cnt_n {k : Nat → Nat} {i : Nat} (h : ¬ k i = 0) : sq_cnt k (i + 1) = sq_cnt k i := by
  show sq_cnt k i + (if k i = 0 then 1 else 0) = _
  rw [if_neg h, Nat.add_zero]
theorem sq_cnt_le1 (k : Nat → Nat) (i : Nat) : sq_cnt k i ≤ sq_cnt k (i + 1) := Nat.le_add_right _ _
theorem sq_cnt_mono (k : Nat → Nat) {i j : Nat} (h : i ≤ j) : sq_cnt k i ≤ sq_cnt k j := by
  induction j with
  | zero => rw [show i = 0 by omega]; exact Nat.le_refl _
  | succ j ih =>
    by_cases e : i = j + 1
    · rw [e]; exact Nat.le_refl _
    · exact Nat.le_trans (ih (by omega)) (sq_cnt_le1 k j)
theorem sq_cnt_le (k : Nat → Nat) (i : Nat) : sq_cnt k i ≤ i := by
  induction i with
  | zero => exact Nat.le_refl _
  | succ i ih =>
    by_cases h : k i = 0
    · rw [sq_cnt_s h]; omega
    · rw [sq_cnt_n h]; omega
theorem sq_cnt_congr {k k' : Nat → Nat} {n : Nat} (h : ∀ i, i < n → k i = k' i) : sq_cnt k n = sq_cnt k' n := by
  induction n with
  | zero => rfl
  | succ n ih =>
    show sq_cnt k n + _ = sq_cnt k' n + _
    rw [ih (fun i hi => h i (by omega)), h n (by omega)]
theorem sq_cnt_inj {k : Nat → Nat} {i j : Nat} (hi : k i = 0) (hj : k j = 0) (h : sq_cnt k i = sq_cnt k j) : i = j := by
  rcases Nat.lt_trichotomy i j with g | g | g
  · have := sq_cnt_mono k (show i + 1 ≤ j from g)
    rw [sq_cnt_s hi] at this
    omega
  · exact g
  · have := sq_cnt_mono k (show j + 1 ≤ i from g)
    rw [sq_cnt_s hj] at this
    omega
theorem sq_six_ok {k : Nat → Nat} {r n : Nat} (h : r < sq_cnt k n) : sq_six k r n < n ∧ k (sq_six k r n) = 0 ∧ sq_cnt k (sq_six k r n) = r := by
  induction n with
  | zero => exact absurd h (Nat.not_lt_zero _)
  | succ n ih =>
    unfold sq_six
    by_cases c : k n = 0 ∧ sq_cnt k n = r
    · rw [if_pos c]
      exact ⟨by omega, c.1, c.2⟩
    · rw [if_neg c]
      have : r < sq_cnt k n := by
        by_cases h0 : k n = 0
        · rw [sq_cnt_s h0] at h
          have : sq_cnt k n ≠ r := fun e => c ⟨h0, e⟩
          omega
        · rw [sq_cnt_n h0] at h
          exact h
      have := ih this
      exact ⟨by omega, this.2.1, this.2.2⟩
theorem sq_six_eq {k : Nat → Nat} {r n i : Nat} (hi : i < n) (h0 : k i = 0) (hr : sq_cnt k i = r) : sq_six k r n = i := by
  have h : r < sq_cnt k n := by
    have := sq_cnt_mono k (show i + 1 ≤ n from hi)
    rw [sq_cnt_s h0] at this
    omega
  have := sq_six_ok h
  exact sq_cnt_inj this.2.1 h0 (by rw [this.2.2, hr])
theorem sq_six_lt {k : Nat → Nat} {i d n : Nat} (hn : i ≤ n) (h : d < sq_cnt k i) : sq_six k d n < i := by
  have h1 := sq_six_ok (Nat.lt_of_lt_of_le h (sq_cnt_mono k hn))
  rcases Nat.lt_or_ge (sq_six k d n) i with g | g
  · exact g
  · have := sq_cnt_mono k g
    omega
def sq_iss (P : sq_P) (p t : Nat) : Nat := sq_cnt (sq_K P t) (sq_A p t)
/-- what a load of x finds: the last of the first c queued stores to x, else v -/
def sq_fq (P : sq_P) (t x v d : Nat) : Nat → Nat
  | 0 => v
  | c + 1 => if sq_V P t (sq_six (sq_K P t) (d + c) (sq_n P t)) = x then sq_W P t (sq_six (sq_K P t) (d + c) (sq_n P t)) else sq_fq P t x v d c
def sq_fv (P : sq_P) (s : sq_S) (t x : Nat) : Nat := sq_fq P t x (sq_C s.2 (6 + x)) (sq_D s.1 t) (sq_iss P s.1 t - sq_D s.1 t)
def sq_Re (P : sq_P) (t : Nat) (s : sq_S) : sq_S :=
  (s.1 + 16 * 128 ^ t, sq_set s.2 (6 + sq_V P t (sq_six (sq_K P t) (sq_D s.1 t) (sq_n P t))) (sq_W P t (sq_six (sq_K P t) (sq_D s.1 t) (sq_n P t))))
def sq_Go (P : sq_P) (t : Nat) (s : sq_S) : sq_S :=
  (s.1 + 128 ^ t, if sq_K P t (sq_A s.1 t) = 1 then sq_or s.2 (sq_N P t (sq_A s.1 t)) (sq_fv P s t (sq_V P t (sq_A s.1 t))) else s.2)
def sq_En (P : sq_P) (t : Nat) (s : sq_S) : Prop := sq_A s.1 t < sq_n P t ∧ ¬ (sq_K P t (sq_A s.1 t) = 2 ∧ sq_D s.1 t < sq_iss P s.1 t)
def sq_Wt (P : sq_P) (t : Nat) (s : sq_S) : Prop := sq_D s.1 t < sq_iss P s.1 t
def sq_Gs (P : sq_P) (b : Bool) (t : Nat) (s : sq_S) : sq_S := if b = true ∧ sq_K P t (sq_A s.1 t) = 0 then sq_Re P t (sq_Go P t s) else sq_Go P t s
def sq_Stp (P : sq_P) (b : Bool) (s s' : sq_S) : Prop := ∃ t, t < 4 ∧ ((sq_En P t s ∧ s' = sq_Gs P b t s) ∨ (sq_Wt P t s ∧ s' = sq_Re P t s))
def sq_R (P : sq_P) (b : Bool) (s : sq_S) : Prop := ∀ X : sq_S → Prop, X (0, 0) → (∀ a c, X a → sq_Stp P b a c → X c) → X s
def sq_Fin (P : sq_P) (s : sq_S) : Prop := ∀ t, t < 4 → ¬ sq_En P t s ∧ ¬ sq_Wt P t s
def sq_Out (P : sq_P) (b : Bool) (x : Nat) : Prop := ∃ s, sq_R P b s ∧ sq_Fin P s ∧ s.2 = x
theorem sq_R_0 (P : sq_P) (b : Bool) : sq_R P b (0, 0) := fun _ h0 _ => h0
theorem sq_R_s {P : sq_P} {b : Bool} {s s' : sq_S} (h : sq_R P b s) (hs : sq_Stp P b s s') : sq_R P b s' := fun X h0 hX => hX _ _ (h X h0 hX) hs
/-- what the walk needs of a program -/
def sq_TV (P : sq_P) : Prop := ∀ t, t < 4 → sq_n P t ≤ 12 ∧ sq_cnt (sq_K P t) (sq_n P t) ≤ 6 ∧ ∀ i, i < sq_n P t → sq_V P t i < 3 ∧ sq_W P t i < 4 ∧ sq_N P t i < 6 ∧ sq_K P t i < 3
/-- what holds of every state come to -/
def sq_RL (P : sq_P) (s : sq_S) : Prop := s.1 < 268435456 ∧ s.2 < 262144 ∧ ∀ t, t < 4 → sq_A s.1 t ≤ sq_n P t ∧ sq_D s.1 t ≤ sq_iss P s.1 t
theorem sq_RL_0 (P : sq_P) : sq_RL P (0, 0) := ⟨by decide, by decide, fun t _ => by simp [sq_A0, sq_D0]⟩
theorem sq_iss_le {P : sq_P} {s : sq_S} {t : Nat} (hV : sq_TV P) (h : sq_RL P s) (ht : t < 4) : sq_iss P s.1 t ≤ sq_cnt (sq_K P t) (sq_n P t) ∧ sq_iss P s.1 t ≤ 6 := by
  have h1 := sq_cnt_mono (sq_K P t) (h.2.2 t ht).1
  have h2 := (hV t ht).2.1
  unfold sq_iss
  exact ⟨h1, by omega⟩
theorem sq_fq_lt {P : sq_P} {t x v d : Nat} (hV : sq_TV P) (ht : t < 4) (hv : v < 4) : ∀ c, d + c ≤ sq_cnt (sq_K P t) (sq_n P t) → sq_fq P t x v d c < 4
  | 0, _ => hv
  | c + 1, h => by
    unfold sq_fq
    have h1 := sq_six_ok (show d + c < sq_cnt (sq_K P t) (sq_n P t) by omega)
    by_cases e : sq_V P t (sq_six (sq_K P t) (d + c) (sq_n P t)) = x
    · rw [if_pos e]
      exact ((hV t ht).2.2 _ h1.1).2.1
    · rw [if_neg e]
      exact sq_fq_lt hV ht hv c (by omega)
theorem sq_fv_lt {P : sq_P} {s : sq_S} {t x : Nat} (hV : sq_TV P) (h : sq_RL P s) (ht : t < 4) : sq_fv P s t x < 4 := by
  have h1 := (sq_iss_le hV h ht).1
  have h2 := (h.2.2 t ht).2
  exact sq_fq_lt hV ht (sq_C4 _ _) _ (by omega)
theorem sq_RL_go {P : sq_P} {s : sq_S} {t : Nat} (hV : sq_TV P) (h : sq_RL P s) (ht : t < 4) (hn : sq_A s.1 t < sq_n P t) : sq_RL P (sq_Go P t s) := by
  have hV' := hV t ht
  have ha : sq_A s.1 t < 15 := by omega
  refine ⟨sq_p_go ht h.1 ha, ?_, fun r hr => ?_⟩
  · show (if sq_K P t (sq_A s.1 t) = 1 then sq_or s.2 (sq_N P t (sq_A s.1 t)) (sq_fv P s t (sq_V P t (sq_A s.1 t))) else s.2) < 262144
    by_cases e : sq_K P t (sq_A s.1 t) = 1
    · rw [if_pos e]
      have := (hV'.2.2 _ hn).2.2.1
      exact sq_or_lt h.2.1 (by omega) (sq_fv_lt hV h ht)
    · rw [if_neg e]
      exact h.2.1
  · show sq_A (s.1 + 128 ^ t) r ≤ _ ∧ sq_D (s.1 + 128 ^ t) r ≤ sq_cnt (sq_K P r) (sq_A (s.1 + 128 ^ t) r)
    rw [sq_A_go ht hr ha, sq_D_go ht hr ha]
    have hh := h.2.2 r hr
    by_cases e : r = t
    · rw [if_pos e, e]
      rw [e] at hh
      exact ⟨hn, Nat.le_trans hh.2 (sq_cnt_le1 _ _)⟩
    · rw [if_neg e]
      exact hh
theorem sq_RL_re {P : sq_P} {s : sq_S} {t : Nat} (hV : sq_TV P) (h : sq_RL P s) (ht : t < 4) (hw : sq_Wt P t s) : sq_RL P (sq_Re P t s) := by
  have hV' := hV t ht
  have hi := sq_iss_le hV h ht
  have hw' : sq_D s.1 t < sq_iss P s.1 t := hw
  have hd : sq_D s.1 t < 7 := by omega
  have h6 := sq_six_ok (show sq_D s.1 t < sq_cnt (sq_K P t) (sq_n P t) by omega)
  have hv := hV'.2.2 _ h6.1
  refine ⟨sq_p_re ht h.1 hd, sq_set_lt h.2.1 (by omega) hv.2.1, fun r hr => ?_⟩
  show sq_A (s.1 + 16 * 128 ^ t) r ≤ _ ∧ sq_D (s.1 + 16 * 128 ^ t) r ≤ sq_cnt (sq_K P r) (sq_A (s.1 + 16 * 128 ^ t) r)
  rw [sq_A_re ht hr hd, sq_D_re ht hr hd]
  have hh := h.2.2 r hr
  by_cases e : r = t
  · rw [if_pos e, e]
    rw [e] at hh
    exact ⟨hh.1, hw'⟩
  · rw [if_neg e]
    exact hh
/-- behind a store that was put into the queue something waits -/
theorem sq_go_wt {P : sq_P} {s : sq_S} {t : Nat} (hV : sq_TV P) (h : sq_RL P s) (ht : t < 4) (hn : sq_A s.1 t < sq_n P t) (hk : sq_K P t (sq_A s.1 t) = 0) : sq_Wt P t (sq_Go P t s) := by
  have ha : sq_A s.1 t < 15 := by have := (hV t ht).1; omega
  show sq_D (s.1 + 128 ^ t) t < sq_cnt (sq_K P t) (sq_A (s.1 + 128 ^ t) t)
  rw [sq_A_go ht ht ha, sq_D_go ht ht ha, if_pos rfl, sq_cnt_s hk]
  exact Nat.lt_succ_of_le (h.2.2 t ht).2
theorem sq_RL_gs {P : sq_P} {b : Bool} {s : sq_S} {t : Nat} (hV : sq_TV P) (h : sq_RL P s) (ht : t < 4) (hn : sq_A s.1 t < sq_n P t) : sq_RL P (sq_Gs P b t s) := by
  unfold sq_Gs
  have h1 := sq_RL_go hV h ht hn
  by_cases e : b = true ∧ sq_K P t (sq_A s.1 t) = 0
  · rw [if_pos e]
    exact sq_RL_re hV h1 ht (sq_go_wt hV h ht hn e.2)
  · rw [if_neg e]
    exact h1
theorem sq_RL_stp {P : sq_P} {b : Bool} {s s' : sq_S} (hV : sq_TV P) (h : sq_RL P s) (hs : sq_Stp P b s s') : sq_RL P s' := by
  obtain ⟨t, ht, ⟨he, e⟩ | ⟨hw, e⟩⟩ := hs
  · rw [e]; exact sq_RL_gs hV h ht he.1
  · rw [e]; exact sq_RL_re hV h ht hw
theorem sq_R_RL {P : sq_P} {b : Bool} {s : sq_S} (hV : sq_TV P) (h : sq_R P b s) : sq_RL P s := h (sq_RL P) (sq_RL_0 P) (fun _ _ h1 h2 => sq_RL_stp hV h1 h2)
theorem sq_fin_iff {P : sq_P} {b : Bool} {s : sq_S} : sq_Fin P s ↔ ∀ s', ¬ sq_Stp P b s s' := by
  constructor
  · rintro h s' ⟨t, ht, ⟨he, _⟩ | ⟨hw, _⟩⟩
    · exact (h t ht).1 he
    · exact (h t ht).2 hw
  · intro h t ht
    exact ⟨fun he => h _ ⟨t, ht, Or.inl ⟨he, rfl⟩⟩, fun hw => h _ ⟨t, ht, Or.inr ⟨hw, rfl⟩⟩⟩
/-- strict runs are runs -/
theorem sq_R_strict {P : sq_P} {s : sq_S} (hV : sq_TV P) (h : sq_R P true s) : sq_R P false s := by
  refine h (sq_R P false) (sq_R_0 P false) (fun a c ha hs => ?_)
  have hl := sq_R_RL hV ha
  obtain ⟨t, ht, ⟨he, e⟩ | ⟨hw, e⟩⟩ := hs
  · have h1 : sq_R P false (sq_Go P t a) := sq_R_s ha ⟨t, ht, Or.inl ⟨he, by simp [sq_Gs]⟩⟩
    unfold sq_Gs at e
    by_cases g : true = true ∧ sq_K P t (sq_A a.1 t) = 0
    · rw [if_pos g] at e
      rw [e]
      exact sq_R_s h1 ⟨t, ht, Or.inr ⟨sq_go_wt hV hl ht he.1 g.2, rfl⟩⟩
    · rw [if_neg g] at e
      rw [e]
      exact h1
  · exact sq_R_s ha ⟨t, ht, Or.inr ⟨hw, e⟩⟩
theorem sq_F1 {P : sq_P} {x : Nat} (hV : sq_TV P) (h : sq_Out P true x) : sq_Out P false x := by
  obtain ⟨s, h1, h2, h3⟩ := h
  exact ⟨s, sq_R_strict hV h1, h2, h3⟩
theorem sq_stp_up {P : sq_P} {b : Bool} {s s' : sq_S} (hs : sq_Stp P b s s') : s.1 < s'.1 := by
  have h1 : ∀ t, 0 < 128 ^ t := fun t => Nat.pow_pos (by decide)
  obtain ⟨t, ht, ⟨he, e⟩ | ⟨hw, e⟩⟩ := hs
  · rw [e]
    unfold sq_Gs
    have := h1 t
    by_cases g : b = true ∧ sq_K P t (sq_A s.1 t) = 0
    · rw [if_pos g]
      show s.1 < s.1 + 128 ^ t + 16 * 128 ^ t
      omega
    · rw [if_neg g]
      show s.1 < s.1 + 128 ^ t
      omega
  · rw [e]
    have := h1 t
    show s.1 < s.1 + 16 * 128 ^ t
    omega
theorem sq_F3 {P : sq_P} (b : Bool) (hV : sq_TV P) : ∃ x, sq_Out P b x := by
  have key : ∀ k s, 268435456 - s.1 < k → sq_R P b s → ∃ x, sq_Out P b x := by
    intro k
    induction k with
    | zero => intro s h; exact absurd h (Nat.not_lt_zero _)
    | succ k ih =>
      intro s hk hs
      by_cases hf : sq_Fin P s
      · exact ⟨s.2, s, hs, hf, rfl⟩
      · have : ∃ s', sq_Stp P b s s' := by
          apply Classical.byContradiction
          intro hn
          exact hf (sq_fin_iff.mpr (fun s' h => hn ⟨s', h⟩))
        obtain ⟨s', h'⟩ := this
        have h1 := sq_stp_up h'
        have h2 := sq_R_s hs h'
        have h3 := (sq_R_RL hV h2).1
        exact ih s' (by omega) h2
  exact key 268435457 (0, 0) (by show 268435456 - 0 < 268435457; omega) (sq_R_0 P b)
end
section
/-! a program in which every store is the last of its thread or has a fence behind it: every outcome is a strict one -/
def sq_Rob (P : sq_P) : Prop := ∀ t, t < 4 → ∀ i, i + 1 < sq_n P t → sq_K P t i = 0 → sq_K P t (i + 1) = 2
def sq_Sm (P : sq_P) (s s' : sq_S) (t : Nat) : Prop := sq_D s'.1 t = sq_D s.1 t ∧ ((sq_D s.1 t = sq_iss P s.1 t ∧ sq_A s'.1 t = sq_A s.1 t) ∨ (sq_A s.1 t = sq_A s'.1 t + 1 ∧ sq_K P t (sq_A s'.1 t) = 0 ∧ sq_D s.1 t = sq_cnt (sq_K P t) (sq_A s'.1 t)))
def sq_Sim (P : sq_P) (s s' : sq_S) : Prop := s'.2 = s.2 ∧ ∀ t, t < 4 → sq_Sm P s s' t
theorem sq_Go1 (P : sq_P) (t : Nat) (s : sq_S) : (sq_Go P t s).1 = s.1 + 128 ^ t := rfl
theorem sq_Re1 (P : sq_P) (t : Nat) (s : sq_S) : (sq_Re P t s).1 = s.1 + 16 * 128 ^ t := rfl
theorem sq_Go2 {P : sq_P} {t : Nat} {s : sq_S} (h : ¬ sq_K P t (sq_A s.1 t) = 1) : (sq_Go P t s).2 = s.2 := if_neg h
theorem sq_Go2' {P : sq_P} {t : Nat} {s : sq_S} (h : sq_K P t (sq_A s.1 t) = 1) : (sq_Go P t s).2 = sq_or s.2 (sq_N P t (sq_A s.1 t)) (sq_fv P s t (sq_V P t (sq_A s.1 t))) := if_pos h
theorem sq_Sm_go1 {P : sq_P} {s s' : sq_S} {t r : Nat} (ht : t < 4) (hr : r < 4) (hne : r ≠ t) (ha : sq_A s.1 t < 15) (h : sq_Sm P s s' r) : sq_Sm P (sq_Go P t s) s' r := by
  unfold sq_Sm sq_iss at *
  rw [sq_Go1, sq_A_go ht hr ha, sq_D_go ht hr ha, if_neg hne]
  exact h
theorem sq_Sm_go2 {P : sq_P} {s s' : sq_S} {t r : Nat} (ht : t < 4) (hr : r < 4) (hne : r ≠ t) (ha : sq_A s'.1 t < 15) (h : sq_Sm P s s' r) : sq_Sm P s (sq_Go P t s') r := by
  unfold sq_Sm sq_iss at *
  rw [sq_Go1, sq_A_go ht hr ha, sq_D_go ht hr ha, if_neg hne]
  exact h
theorem sq_Sm_re1 {P : sq_P} {s s' : sq_S} {t r : Nat} (ht : t < 4) (hr : r < 4) (hne : r ≠ t) (ha : sq_D s.1 t < 7) (h : sq_Sm P s s' r) : sq_Sm P (sq_Re P t s) s' r := by
  unfold sq_Sm sq_iss at *
  rw [sq_Re1, sq_A_re ht hr ha, sq_D_re ht hr ha, if_neg hne]
  exact h
theorem sq_Sm_re2 {P : sq_P} {s s' : sq_S} {t r : Nat} (ht : t < 4) (hr : r < 4) (hne : r ≠ t) (ha : sq_D s'.1 t < 7) (h : sq_Sm P s s' r) : sq_Sm P s (sq_Re P t s') r := by
  unfold sq_Sm sq_iss at *
  rw [sq_Re1, sq_A_re ht hr ha, sq_D_re ht hr ha, if_neg hne]
  exact h
theorem sq_sim_go {P : sq_P} {s s' : sq_S} {t : Nat} (hV : sq_TV P) (hR : sq_Rob P) (hs : sq_RL P s) (h' : sq_R P true s') (hm : sq_Sim P s s') (ht : t < 4) (he : sq_En P t s) : ∃ z, sq_R P true z ∧ sq_Sim P (sq_Go P t s) z := by
  have hV' := hV t ht
  have ha : sq_A s.1 t < 15 := by have := he.1; omega
  obtain ⟨hD, ⟨c1, c2⟩ | ⟨c1, c2, c3⟩⟩ := hm.2 t ht
  · have ha' : sq_A s'.1 t < 15 := by omega
    by_cases hk : sq_K P t (sq_A s.1 t) = 0
    · refine ⟨s', h', ?_, fun r hr => ?_⟩
      · rw [sq_Go2 (by rw [hk]; decide)]
        exact hm.1
      · by_cases e : r = t
        · rw [e]
          unfold sq_Sm
          rw [sq_Go1, sq_A_go ht ht ha, sq_D_go ht ht ha, if_pos rfl]
          refine ⟨hD, Or.inr ⟨by rw [c2], by rw [c2]; exact hk, ?_⟩⟩
          rw [c2]
          exact c1
        · exact sq_Sm_go1 ht hr e ha (hm.2 r hr)
    · have hi : sq_iss P s'.1 t = sq_iss P s.1 t := by unfold sq_iss; rw [c2]
      have he' : sq_En P t s' := by
        refine ⟨by rw [c2]; exact he.1, fun z => ?_⟩
        have := z.2
        omega
      have hg : sq_Gs P true t s' = sq_Go P t s' := by
        unfold sq_Gs
        rw [if_neg (fun z => hk (by rw [← c2]; exact z.2))]
      refine ⟨sq_Go P t s', sq_R_s h' ⟨t, ht, Or.inl ⟨he', hg.symm⟩⟩, ?_, fun r hr => ?_⟩
      · by_cases h1 : sq_K P t (sq_A s.1 t) = 1
        · rw [sq_Go2' h1, sq_Go2' (by rw [c2]; exact h1), c2, hm.1]
          unfold sq_fv
          rw [hi, hD, hm.1, show sq_iss P s.1 t - sq_D s.1 t = 0 by omega]
        · rw [sq_Go2 h1, sq_Go2 (by rw [c2]; exact h1)]
          exact hm.1
      · by_cases e : r = t
        · rw [e]
          unfold sq_Sm sq_iss
          rw [sq_Go1, sq_Go1, sq_A_go ht ht ha, sq_D_go ht ht ha, sq_A_go ht ht ha', sq_D_go ht ht ha', if_pos rfl, if_pos rfl, sq_cnt_n hk]
          exact ⟨hD, Or.inl ⟨c1, by rw [c2]⟩⟩
        · exact sq_Sm_go1 ht hr e ha (sq_Sm_go2 ht hr e ha' (hm.2 r hr))
  · exfalso
    have h1 := he.1
    rw [c1] at h1
    have h2 := hR t ht _ h1 c2
    refine he.2 ⟨by rw [c1]; exact h2, ?_⟩
    unfold sq_iss
    rw [c1, sq_cnt_s c2]
    omega
theorem sq_sim_re {P : sq_P} {s s' : sq_S} {t : Nat} (hV : sq_TV P) (hs : sq_RL P s) (h' : sq_R P true s') (hm : sq_Sim P s s') (ht : t < 4) (hw : sq_Wt P t s) : ∃ z, sq_R P true z ∧ sq_Sim P (sq_Re P t s) z := by
  have hV' := hV t ht
  have hw' : sq_D s.1 t < sq_iss P s.1 t := hw
  have hl := hs.2.2 t ht
  have hd : sq_D s.1 t < 7 := by have := (sq_iss_le hV hs ht).2; omega
  obtain ⟨hD, ⟨c1, c2⟩ | ⟨c1, c2, c3⟩⟩ := hm.2 t ht
  · omega
  · have ha' : sq_A s'.1 t < 15 := by omega
    have he' : sq_En P t s' := ⟨by omega, fun z => by rw [c2] at z; exact absurd z.1 (by decide)⟩
    have hg : sq_Gs P true t s' = sq_Re P t (sq_Go P t s') := by
      unfold sq_Gs
      rw [if_pos ⟨rfl, c2⟩]
    have hd2 : sq_D (sq_Go P t s').1 t < 7 := by rw [sq_Go1, sq_D_go ht ht ha', hD]; exact hd
    refine ⟨sq_Re P t (sq_Go P t s'), sq_R_s h' ⟨t, ht, Or.inl ⟨he', hg.symm⟩⟩, ?_, fun r hr => ?_⟩
    · show sq_set (sq_Go P t s').2 (6 + sq_V P t (sq_six (sq_K P t) (sq_D (s'.1 + 128 ^ t) t) (sq_n P t))) (sq_W P t (sq_six (sq_K P t) (sq_D (s'.1 + 128 ^ t) t) (sq_n P t))) = sq_set s.2 _ _
      rw [sq_Go2 (by rw [c2]; decide), sq_D_go ht ht ha', hD, hm.1]
    · by_cases e : r = t
      · rw [e]
        unfold sq_Sm sq_iss
        rw [sq_Re1, sq_Re1, sq_A_re ht ht hd, sq_D_re ht ht hd, sq_A_re ht ht hd2, sq_D_re ht ht hd2, if_pos rfl, if_pos rfl, sq_Go1, sq_A_go ht ht ha', sq_D_go ht ht ha', if_pos rfl, c1, sq_cnt_s c2]
        exact ⟨by rw [hD], Or.inl ⟨by rw [c3], rfl⟩⟩
      · exact sq_Sm_re1 ht hr e hd (sq_Sm_re2 ht hr e hd2 (sq_Sm_go2 ht hr e ha' (hm.2 r hr)))
theorem sq_sim {P : sq_P} {s : sq_S} (hV : sq_TV P) (hR : sq_Rob P) (h : sq_R P false s) : ∃ z, sq_R P true z ∧ sq_Sim P s z := by
  have key : sq_RL P s ∧ ∃ z, sq_R P true z ∧ sq_Sim P s z := by
    refine h (fun s => sq_RL P s ∧ ∃ z, sq_R P true z ∧ sq_Sim P s z) ⟨sq_RL_0 P, (0, 0), sq_R_0 P true, rfl, fun t _ => ?_⟩ (fun a c ha hs => ?_)
    · exact ⟨rfl, Or.inl ⟨by unfold sq_iss; rw [sq_A0, sq_D0]; rfl, rfl⟩⟩
    · obtain ⟨hl, z, hz, hm⟩ := ha
      refine ⟨sq_RL_stp hV hl hs, ?_⟩
      obtain ⟨t, ht, ⟨he, e⟩ | ⟨hw, e⟩⟩ := hs
      · have : sq_Gs P false t a = sq_Go P t a := by simp [sq_Gs]
        rw [e, this]
        exact sq_sim_go hV hR hl hz hm ht he
      · rw [e]
        exact sq_sim_re hV hl hz hm ht hw
  exact key.2
theorem sq_F2 {P : sq_P} {x : Nat} (hV : sq_TV P) (hR : sq_Rob P) (h : sq_Out P false x) : sq_Out P true x := by
  obtain ⟨s, h1, h2, h3⟩ := h
  obtain ⟨z, hz, hm⟩ := sq_sim hV hR h1
  have hl := sq_R_RL hV h1
  have hl' := sq_R_RL hV hz
  have key : ∀ t, t < 4 → sq_A z.1 t = sq_A s.1 t ∧ sq_D z.1 t = sq_D s.1 t := by
    intro t ht
    obtain ⟨hD, ⟨c1, c2⟩ | ⟨c1, c2, c3⟩⟩ := hm.2 t ht
    · exact ⟨c2, hD⟩
    · exfalso
      refine (h2 t ht).2 ?_
      show sq_D s.1 t < sq_cnt (sq_K P t) (sq_A s.1 t)
      rw [c1, sq_cnt_s c2]
      omega
  have e1 : z.1 = s.1 := sq_p_ext hl'.1 hl.1 (fun t ht => (key t ht).1) (fun t ht => (key t ht).2)
  have e2 : z = s := Prod.ext e1 hm.1
  exact ⟨s, e2 ▸ hz, h2, h3⟩
end
section
/-! counting with lists -/
theorem sq_pig {α β : Type} (f : α → β) : ∀ (l : List α) (U : List β), l.Nodup → (∀ a, a ∈ l → f a ∈ U) → (∀ a, a ∈ l → ∀ b, b ∈ l → f a = f b → a = b) → l.length ≤ U.length
  | [], U, _, _, _ => Nat.zero_le _
  | a :: l, U, hl, hf, hi => by
    have hn := List.nodup_cons.mp hl
    obtain ⟨U1, U2, e⟩ := List.append_of_mem (hf a List.mem_cons_self)
    have := sq_pig f l (U1 ++ U2) hn.2 (fun b hb => by
      have h1 := hf b (List.mem_cons_of_mem _ hb)
      rw [e] at h1
      rcases List.mem_append.mp h1 with h | h
      · exact List.mem_append.mpr (Or.inl h)
      · rcases List.mem_cons.mp h with h | h
        · have := hi b (List.mem_cons_of_mem _ hb) a List.mem_cons_self h
          exact absurd (this ▸ hb) hn.1
        · exact List.mem_append.mpr (Or.inr h))
      (fun x hx y hy => hi x (List.mem_cons_of_mem _ hx) y (List.mem_cons_of_mem _ hy))
    rw [e]
    simp only [List.length_append, List.length_cons] at this ⊢
    omega
def sq_pw (o : List Nat) : Nat → List (List Nat)
  | 0 => [[]]
  | b + 1 => o.flatMap (fun x => (sq_pw o b).map (fun l => x :: l))
theorem sq_sumc {α : Type} (l : List α) (c : Nat) : (l.map (fun _ => c)).sum = l.length * c := by
  induction l with
  | nil => simp
  | cons a l ih => rw [List.map_cons, List.sum_cons, ih, List.length_cons, Nat.succ_mul, Nat.add_comm]
theorem sq_pw_len (o : List Nat) (b : Nat) : (sq_pw o b).length = o.length ^ b := by
  induction b with
  | zero => rfl
  | succ b ih =>
    show (o.flatMap (fun x => (sq_pw o b).map (fun l => x :: l))).length = _
    rw [List.length_flatMap]
    simp only [List.length_map]
    rw [sq_sumc, ih, Nat.pow_succ, Nat.mul_comm]
theorem sq_pw_in {o : List Nat} : ∀ (l : List Nat), (∀ x, x ∈ l → x ∈ o) → l ∈ sq_pw o l.length
  | [], _ => List.mem_singleton.mpr rfl
  | x :: l, h => by
    show x :: l ∈ o.flatMap (fun x => (sq_pw o l.length).map (fun l => x :: l))
    exact List.mem_flatMap.mpr ⟨x, h x List.mem_cons_self, List.mem_map.mpr ⟨l, sq_pw_in l (fun y hy => h y (List.mem_cons_of_mem _ hy)), rfl⟩⟩
theorem sq_pw_l {o : List Nat} : ∀ (b : Nat) (l : List Nat), l ∈ sq_pw o b → l.length = b
  | 0, l, h => by rw [List.mem_singleton.mp h]; rfl
  | b + 1, l, h => by
    obtain ⟨x, _, h2⟩ := List.mem_flatMap.mp h
    obtain ⟨l', h3, e⟩ := List.mem_map.mp h2
    rw [← e, List.length_cons, sq_pw_l b l' h3]
def sq_pr {α β : Type} (l : List α) (k : List β) : List (α × β) := l.flatMap (fun a => k.map (fun b => (a, b)))
theorem sq_pr_len {α β : Type} (l : List α) (k : List β) : (sq_pr l k).length = l.length * k.length := by
  unfold sq_pr
  rw [List.length_flatMap]
  simp only [List.length_map]
  rw [sq_sumc]
theorem sq_pr_in {α β : Type} {l : List α} {k : List β} {a : α} {b : β} (ha : a ∈ l) (hb : b ∈ k) : (a, b) ∈ sq_pr l k :=
  List.mem_flatMap.mpr ⟨a, ha, List.mem_map.mpr ⟨b, hb, rfl⟩⟩
/-- the values of the stores whose status is c -/
def sq_dv (c : Nat → Bool) : List Nat → List Nat → List Nat
  | s :: ss, v :: vs => if c s = true then v :: sq_dv c ss vs else sq_dv c ss vs
  | _, _ => []
theorem sq_dv_in {α : Type} {c : Nat → Bool} {f g : α → Nat} {v : Nat} : ∀ l : List α, v ∈ sq_dv c (l.map f) (l.map g) ↔ ∃ q, q ∈ l ∧ c (f q) = true ∧ g q = v
  | [] => by simp [sq_dv]
  | a :: l => by
    have ih := sq_dv_in (c := c) (f := f) (g := g) (v := v) l
    rw [List.map_cons, List.map_cons]
    unfold sq_dv
    by_cases h : c (f a) = true
    · rw [if_pos h, List.mem_cons, ih]
      constructor
      · rintro (e | ⟨q, h1, h2, h3⟩)
        · exact ⟨a, List.mem_cons_self, h, e.symm⟩
        · exact ⟨q, List.mem_cons_of_mem _ h1, h2, h3⟩
      · rintro ⟨q, h1, h2, h3⟩
        rcases List.mem_cons.mp h1 with e | e
        · exact Or.inl (by rw [← h3, e])
        · exact Or.inr ⟨q, e, h2, h3⟩
    · rw [if_neg h, ih]
      constructor
      · rintro ⟨q, h1, h2, h3⟩
        exact ⟨q, List.mem_cons_of_mem _ h1, h2, h3⟩
      · rintro ⟨q, h1, h2, h3⟩
        rcases List.mem_cons.mp h1 with e | e
        · exact absurd (e ▸ h2) h
        · exact ⟨q, e, h2, h3⟩
def sq_ct (c : Nat → Bool) : List Nat → Nat
  | [] => 0
  | s :: ss => if c s = true then sq_ct c ss + 1 else sq_ct c ss
theorem sq_dv_len (c : Nat → Bool) : ∀ ss vs : List Nat, ss.length = vs.length → (sq_dv c ss vs).length = sq_ct c ss
  | [], [], _ => rfl
  | s :: ss, v :: vs, h => by
    have ih := sq_dv_len c ss vs (by simpa using h)
    unfold sq_dv sq_ct
    by_cases e : c s = true
    · rw [if_pos e, if_pos e, List.length_cons, ih]
    · rw [if_neg e, if_neg e, ih]
  | [], _ :: _, h => by simp at h
  | _ :: _, [], h => by simp at h
def sq_c2 (s : Nat) : Bool := s == 2
def sq_c1 (s : Nat) : Bool := s != 0
def sq_nz (l : List Nat) : List Nat := match l with
  | [] => [0]
  | a :: l => a :: l
theorem sq_nz_len (l : List Nat) : (sq_nz l).length = max 1 l.length := by
  cases l with
  | nil => rfl
  | cons a l => simp only [sq_nz, List.length_cons]; omega
theorem sq_nz_in {l : List Nat} {v : Nat} (h0 : (∀ x, x ∉ l) → v = 0) (h1 : (∃ x, x ∈ l) → v ∈ l) : v ∈ sq_nz l := by
  cases l with
  | nil => rw [h0 (fun x => List.not_mem_nil)]; exact List.mem_singleton.mpr rfl
  | cons a l => exact h1 ⟨a, List.mem_cons_self⟩
def sq_op (l : List Nat) : List Nat := if 3 ≤ l.length then [0, 1, 2, 3] else 0 :: l
theorem sq_op_len (l : List Nat) : (sq_op l).length = if 3 ≤ l.length then 4 else l.length + 1 := by
  unfold sq_op
  by_cases h : 3 ≤ l.length
  · rw [if_pos h, if_pos h]; rfl
  · rw [if_neg h, if_neg h]; rfl
theorem sq_op_in {l : List Nat} {v : Nat} (hv : v < 4) (h : v = 0 ∨ v ∈ l) : v ∈ sq_op l := by
  unfold sq_op
  by_cases g : 3 ≤ l.length
  · rw [if_pos g]
    have : v = 0 ∨ v = 1 ∨ v = 2 ∨ v = 3 := by omega
    rcases this with e | e | e | e <;> rw [e] <;> decide
  · rw [if_neg g]
    exact List.mem_cons.mpr h
/-- all that one variable's stores, memory and loads can look like -/
def sq_U (vs : List Nat) (b : Nat) : List (List Nat × Nat × List Nat) :=
  (sq_pw [0, 1, 2] vs.length).flatMap (fun ss => (sq_pr (sq_nz (sq_dv sq_c2 ss vs)) (sq_pw (0 :: (sq_op (sq_dv sq_c1 ss vs)).map (fun v => v + 1)) b)).map (fun w => (ss, w)))
def sq_gs (b : Nat) (ss : List Nat) : Nat := max 1 (sq_ct sq_c2 ss) * ((if 3 ≤ sq_ct sq_c1 ss then 4 else sq_ct sq_c1 ss + 1) + 1) ^ b
def sq_g (a b : Nat) : Nat := ((sq_pw [0, 1, 2] a).map (sq_gs b)).sum
theorem sq_U_len (vs : List Nat) (b : Nat) : (sq_U vs b).length = sq_g vs.length b := by
  unfold sq_U sq_g
  rw [List.length_flatMap]
  congr 1
  apply List.map_congr_left
  intro ss hs
  have hl := sq_pw_l _ _ hs
  rw [List.length_map, sq_pr_len, sq_pw_len, sq_nz_len, List.length_cons, List.length_map, sq_op_len, sq_dv_len _ _ _ hl, sq_dv_len _ _ _ hl]
  rfl
theorem sq_g_ok : ∀ a, a < 7 → ∀ b, b < 7 → a + b ≤ 6 → sq_g a b ≤ 4 ^ (a + b) := by decide +kernel
theorem sq_U_le {vs : List Nat} {b : Nat} (h : vs.length + b ≤ 6) : (sq_U vs b).length ≤ 4 ^ (vs.length + b) := by
  rw [sq_U_len]
  exact sq_g_ok _ (by omega) _ (by omega) h
/-- the same for the ends of runs -/
def sq_U2 (vs : List Nat) (b : Nat) : List (Nat × List Nat) := sq_pr (sq_nz vs) (sq_pw (sq_op vs) b)
def sq_g2 (a b : Nat) : Nat := max 1 a * (if 3 ≤ a then 4 else a + 1) ^ b
theorem sq_U2_len (vs : List Nat) (b : Nat) : (sq_U2 vs b).length = sq_g2 vs.length b := by
  unfold sq_U2 sq_g2
  rw [sq_pr_len, sq_pw_len, sq_nz_len, sq_op_len]
theorem sq_g2_ok : ∀ a, a < 7 → ∀ b, b < 7 → a + b ≤ 6 → sq_g2 a b * sq_g2 a b ≤ 8 ^ (a + b) := by decide +kernel
theorem sq_U2_le {vs : List Nat} {b : Nat} (h : vs.length + b ≤ 6) : (sq_U2 vs b).length * (sq_U2 vs b).length ≤ 8 ^ (vs.length + b) := by
  rw [sq_U2_len]
  exact sq_g2_ok _ (by omega) _ (by omega) h
/-- seven kinds of places of a list -/
theorem sq_seven {α : Type} (c : α → Nat) : ∀ l : List α, (l.filter (fun q => c q == 0)).length + (l.filter (fun q => c q == 1)).length + (l.filter (fun q => c q == 2)).length + (l.filter (fun q => c q == 3)).length + (l.filter (fun q => c q == 4)).length + (l.filter (fun q => c q == 5)).length + (l.filter (fun q => c q == 6)).length ≤ l.length
  | [] => Nat.le_refl _
  | a :: l => by
    have ih := sq_seven c l
    have h : c a = 0 ∨ c a = 1 ∨ c a = 2 ∨ c a = 3 ∨ c a = 4 ∨ c a = 5 ∨ c a = 6 ∨ 7 ≤ c a := by omega
    have key : ∀ k, ((a :: l).filter (fun q => c q == k)).length = (l.filter (fun q => c q == k)).length + (if c a = k then 1 else 0) := by
      intro k
      by_cases e : c a = k
      · rw [List.filter_cons_of_pos (by simp [e]), List.length_cons, if_pos e]
      · rw [List.filter_cons_of_neg (by simp [e]), if_neg e, Nat.add_zero]
    rw [key, key, key, key, key, key, key, List.length_cons]
    rcases h with h | h | h | h | h | h | h | h
    · rw [h]; simp; omega
    · rw [h]; simp; omega
    · rw [h]; simp; omega
    · rw [h]; simp; omega
    · rw [h]; simp; omega
    · rw [h]; simp; omega
    · rw [h]; simp; omega
    · rw [if_neg (by omega), if_neg (by omega), if_neg (by omega), if_neg (by omega), if_neg (by omega), if_neg (by omega), if_neg (by omega)]
      omega
end
section
/-! a plain program (at most six instructions): at most 4096 states, at most 512 outcomes -/
def sq_PL (P : sq_P) : Prop := sq_TV P ∧ sq_n P 0 + sq_n P 1 + sq_n P 2 + sq_n P 3 ≤ 6 ∧ ∀ t i r j, t < 4 → r < 4 → i < sq_n P t → j < sq_n P r → sq_K P t i = 1 → sq_K P r j = 1 → sq_N P t i = sq_N P r j → t = r ∧ i = j
def sq_st (P : sq_P) (x t i : Nat) : Prop := t < 4 ∧ i < sq_n P t ∧ sq_K P t i = 0 ∧ sq_V P t i = x
def sq_dn (P : sq_P) (s : sq_S) (t i : Nat) : Prop := sq_cnt (sq_K P t) i < sq_D s.1 t
def sq_ld (P : sq_P) (t i : Nat) : Prop := t < 4 ∧ i < sq_n P t ∧ sq_K P t i = 1
def sq_I (P : sq_P) (s : sq_S) : Prop :=
  (∀ x, x < 3 → (∀ t i, sq_st P x t i → ¬ sq_dn P s t i) → sq_C s.2 (6 + x) = 0) ∧
  (∀ x, x < 3 → (∃ t i, sq_st P x t i ∧ sq_dn P s t i) → ∃ t i, sq_st P x t i ∧ sq_dn P s t i ∧ sq_W P t i = sq_C s.2 (6 + x)) ∧
  (∀ t i, sq_ld P t i → i < sq_A s.1 t → sq_C s.2 (sq_N P t i) = 0 ∨ ∃ r j, sq_st P (sq_V P t i) r j ∧ j < sq_A s.1 r ∧ sq_W P r j = sq_C s.2 (sq_N P t i)) ∧
  (∀ j, j < 6 → (∀ t i, sq_ld P t i → i < sq_A s.1 t → sq_N P t i ≠ j) → sq_C s.2 j = 0)
theorem sq_I_0 (P : sq_P) : sq_I P (0, 0) := by
  refine ⟨fun x _ _ => sq_C0 _, fun x _ h => ?_, fun t i _ h => ?_, fun j _ _ => sq_C0 _⟩
  · obtain ⟨t, i, _, h⟩ := h
    unfold sq_dn at h
    rw [sq_D0] at h
    exact absurd h (Nat.not_lt_zero _)
  · rw [sq_A0] at h
    exact absurd h (Nat.not_lt_zero _)
theorem sq_dn_iss {P : sq_P} {s : sq_S} {t i : Nat} (h : sq_RL P s) (ht : t < 4) (hd : sq_dn P s t i) : i < sq_A s.1 t := by
  have h2 := (h.2.2 t ht).2
  rcases Nat.lt_or_ge i (sq_A s.1 t) with g | g
  · exact g
  · have := sq_cnt_mono (sq_K P t) g
    unfold sq_iss at h2
    unfold sq_dn at hd
    omega
/-- what memory holds is 0 or the value of a store that was put in -/
theorem sq_mem {P : sq_P} {s : sq_S} {x : Nat} (h : sq_RL P s) (hI : sq_I P s) (hx : x < 3) : sq_C s.2 (6 + x) = 0 ∨ ∃ r j, sq_st P x r j ∧ j < sq_A s.1 r ∧ sq_W P r j = sq_C s.2 (6 + x) := by
  by_cases g : ∃ t i, sq_st P x t i ∧ sq_dn P s t i
  · obtain ⟨t, i, h1, h2, h3⟩ := hI.2.1 x hx g
    exact Or.inr ⟨t, i, h1, sq_dn_iss h h1.1 h2, h3⟩
  · exact Or.inl (hI.1 x hx (fun t i h1 h2 => g ⟨t, i, h1, h2⟩))
theorem sq_fq_in {P : sq_P} {s : sq_S} {t x v d : Nat} (hV : sq_TV P) (h : sq_RL P s) (ht : t < 4) (hv : v = 0 ∨ ∃ r j, sq_st P x r j ∧ j < sq_A s.1 r ∧ sq_W P r j = v) : ∀ c, d + c ≤ sq_iss P s.1 t → sq_fq P t x v d c = 0 ∨ ∃ r j, sq_st P x r j ∧ j < sq_A s.1 r ∧ sq_W P r j = sq_fq P t x v d c
  | 0, _ => hv
  | c + 1, hc => by
    have h1 := sq_iss_le hV h ht
    have h2 := sq_six_ok (show d + c < sq_cnt (sq_K P t) (sq_n P t) by omega)
    have h3 := sq_six_lt (h.2.2 t ht).1 (show d + c < sq_cnt (sq_K P t) (sq_A s.1 t) by unfold sq_iss at hc; omega)
    unfold sq_fq
    by_cases e : sq_V P t (sq_six (sq_K P t) (d + c) (sq_n P t)) = x
    · rw [if_pos e]
      exact Or.inr ⟨t, _, ⟨ht, h2.1, h2.2.1, e⟩, h3, rfl⟩
    · rw [if_neg e]
      exact sq_fq_in hV h ht hv c (by omega)
theorem sq_I_go {P : sq_P} {s : sq_S} {t : Nat} (hP : sq_PL P) (h : sq_RL P s) (hI : sq_I P s) (ht : t < 4) (hn : sq_A s.1 t < sq_n P t) : sq_I P (sq_Go P t s) := by
  have hV := hP.1
  have hV' := hV t ht
  have ha : sq_A s.1 t < 15 := by omega
  have hv := hV'.2.2 _ hn
  have hup : ∀ r, r < 4 → sq_A s.1 r ≤ sq_A (sq_Go P t s).1 r := by
    intro r hr
    rw [sq_Go1, sq_A_go ht hr ha]
    by_cases e : r = t
    · rw [if_pos e, e]; omega
    · rw [if_neg e]; exact Nat.le_refl _
  have hdn : ∀ r i, r < 4 → (sq_dn P (sq_Go P t s) r i ↔ sq_dn P s r i) := by
    intro r i hr
    unfold sq_dn
    rw [sq_Go1, sq_D_go ht hr ha]
  have hf := sq_fv_lt (x := sq_V P t (sq_A s.1 t)) hV h ht
  have hC : ∀ j, j < 9 → sq_C (sq_Go P t s).2 j = if sq_K P t (sq_A s.1 t) = 1 ∧ j = sq_N P t (sq_A s.1 t) then sq_C s.2 j ||| sq_fv P s t (sq_V P t (sq_A s.1 t)) else sq_C s.2 j := by
    intro j hj
    by_cases e : sq_K P t (sq_A s.1 t) = 1
    · rw [sq_Go2' e, sq_C_orD (by omega) hf hj]
      by_cases e2 : j = sq_N P t (sq_A s.1 t)
      · rw [if_pos e2, if_pos ⟨e, e2⟩]
      · rw [if_neg e2, if_neg (fun z => e2 z.2)]
    · rw [sq_Go2 e, if_neg (fun z => e z.1)]
  have hC6 : ∀ x, x < 3 → sq_C (sq_Go P t s).2 (6 + x) = sq_C s.2 (6 + x) := by
    intro x hx
    rw [hC _ (by omega), if_neg (fun z => by have := z.2; omega)]
  have hCo : ∀ r i, sq_ld P r i → i < sq_A s.1 r → sq_C (sq_Go P t s).2 (sq_N P r i) = sq_C s.2 (sq_N P r i) := by
    intro r i hl hi
    have hb := ((hV r hl.1).2.2 i hl.2.1).2.2.1
    rw [hC _ (by omega), if_neg]
    intro z
    have := hP.2.2 r i t _ hl.1 ht hl.2.1 hn hl.2.2 z.1 z.2
    rw [this.1, this.2] at hi
    exact absurd hi (Nat.lt_irrefl _)
  refine ⟨fun x hx hno => ?_, fun x hx hex => ?_, fun r i hl hi => ?_, fun j hj hno => ?_⟩
  · rw [hC6 x hx]
    exact hI.1 x hx (fun r i h1 h2 => hno r i h1 ((hdn r i h1.1).mpr h2))
  · rw [hC6 x hx]
    obtain ⟨r, i, h1, h2⟩ := hex
    obtain ⟨r', i', g1, g2, g3⟩ := hI.2.1 x hx ⟨r, i, h1, (hdn r i h1.1).mp h2⟩
    exact ⟨r', i', g1, (hdn r' i' g1.1).mpr g2, g3⟩
  · by_cases hi' : i < sq_A s.1 r
    · rw [hCo r i hl hi']
      rcases hI.2.2.1 r i hl hi' with g | ⟨r', j', g1, g2, g3⟩
      · exact Or.inl g
      · exact Or.inr ⟨r', j', g1, Nat.lt_of_lt_of_le g2 (hup r' g1.1), g3⟩
    · have hrt : r = t ∧ i = sq_A s.1 t := by
        rw [sq_Go1, sq_A_go ht hl.1 ha] at hi
        by_cases e : r = t
        · rw [if_pos e] at hi
          rw [e] at hi'
          exact ⟨e, by omega⟩
        · rw [if_neg e] at hi
          exact absurd hi hi'
      obtain ⟨e1, e2⟩ := hrt
      rw [e1] at hl ⊢
      rw [e2] at hl ⊢
      have h0 : sq_C s.2 (sq_N P t (sq_A s.1 t)) = 0 := by
        refine hI.2.2.2 _ (by omega) (fun r' i' g1 g2 g3 => ?_)
        have := hP.2.2 r' i' t _ g1.1 ht g1.2.1 hn g1.2.2 hl.2.2 g3
        rw [this.1, this.2] at g2
        exact absurd g2 (Nat.lt_irrefl _)
      rw [hC _ (by omega), if_pos ⟨hl.2.2, rfl⟩, h0, Nat.zero_or]
      have hD := (h.2.2 t ht).2
      have := sq_fq_in (x := sq_V P t (sq_A s.1 t)) (d := sq_D s.1 t) hV h ht (sq_mem h hI (by omega)) (sq_iss P s.1 t - sq_D s.1 t) (by omega)
      rcases this with g | ⟨r', j', g1, g2, g3⟩
      · exact Or.inl g
      · exact Or.inr ⟨r', j', g1, Nat.lt_of_lt_of_le g2 (hup r' g1.1), g3⟩
  · have h0 : sq_C s.2 j = 0 := hI.2.2.2 j hj (fun r i h1 h2 => hno r i h1 (Nat.lt_of_lt_of_le h2 (hup r h1.1)))
    rw [hC j (by omega), if_neg]
    · exact h0
    · intro z
      refine hno t _ ⟨ht, hn, z.1⟩ ?_ z.2.symm
      rw [sq_Go1, sq_A_go ht ht ha, if_pos rfl]
      omega
theorem sq_I_re {P : sq_P} {s : sq_S} {t : Nat} (hV : sq_TV P) (h : sq_RL P s) (hI : sq_I P s) (ht : t < 4) (hw : sq_Wt P t s) : sq_I P (sq_Re P t s) := by
  have hw' : sq_D s.1 t < sq_iss P s.1 t := hw
  have hi := sq_iss_le hV h ht
  have hd : sq_D s.1 t < 7 := by omega
  have h6 := sq_six_ok (show sq_D s.1 t < sq_cnt (sq_K P t) (sq_n P t) by omega)
  have hv := (hV t ht).2.2 _ h6.1
  have hA : ∀ r, r < 4 → sq_A (sq_Re P t s).1 r = sq_A s.1 r := fun r hr => by rw [sq_Re1, sq_A_re ht hr hd]
  have hC : ∀ j, j < 9 → sq_C (sq_Re P t s).2 j = if j = 6 + sq_V P t (sq_six (sq_K P t) (sq_D s.1 t) (sq_n P t)) then sq_W P t (sq_six (sq_K P t) (sq_D s.1 t) (sq_n P t)) else sq_C s.2 j := by
    intro j hj
    exact sq_C_setD (by omega) hv.2.1 hj
  have hdn : ∀ r i, r < 4 → sq_dn P s r i → sq_dn P (sq_Re P t s) r i := by
    intro r i hr g
    unfold sq_dn at *
    rw [sq_Re1, sq_D_re ht hr hd]
    by_cases e : r = t
    · rw [if_pos e]; rw [e] at g ⊢; omega
    · rw [if_neg e]; exact g
  have hnw : sq_dn P (sq_Re P t s) t (sq_six (sq_K P t) (sq_D s.1 t) (sq_n P t)) := by
    unfold sq_dn
    rw [sq_Re1, sq_D_re ht ht hd, if_pos rfl, h6.2.2]
    exact Nat.lt_succ_self _
  have hst : sq_st P (sq_V P t (sq_six (sq_K P t) (sq_D s.1 t) (sq_n P t))) t (sq_six (sq_K P t) (sq_D s.1 t) (sq_n P t)) := ⟨ht, h6.1, h6.2.1, rfl⟩
  have hold : ∀ x r i, x ≠ sq_V P t (sq_six (sq_K P t) (sq_D s.1 t) (sq_n P t)) → sq_st P x r i → sq_dn P (sq_Re P t s) r i → sq_dn P s r i := by
    intro x r i hx hs g
    unfold sq_dn at *
    rw [sq_Re1, sq_D_re ht hs.1 hd] at g
    by_cases e : r = t
    · rw [if_pos e] at g
      rw [e] at g hs ⊢
      rcases Nat.lt_or_ge (sq_cnt (sq_K P t) i) (sq_D s.1 t) with z | z
      · exact z
      · have : sq_six (sq_K P t) (sq_D s.1 t) (sq_n P t) = i := sq_six_eq hs.2.1 hs.2.2.1 (by omega)
        rw [this] at hx
        exact absurd hs.2.2.2.symm hx
    · rw [if_neg e] at g
      exact g
  refine ⟨fun x hx hno => ?_, fun x hx hex => ?_, fun r i hl g => ?_, fun j hj hno => ?_⟩
  · by_cases e : x = sq_V P t (sq_six (sq_K P t) (sq_D s.1 t) (sq_n P t))
    · rw [e] at hno
      exact absurd hnw (hno _ _ hst)
    · rw [hC _ (by omega), if_neg (by omega)]
      exact hI.1 x hx (fun r i h1 h2 => hno r i h1 (hdn r i h1.1 h2))
  · by_cases e : x = sq_V P t (sq_six (sq_K P t) (sq_D s.1 t) (sq_n P t))
    · rw [hC _ (by omega), if_pos (by omega), e]
      exact ⟨t, _, hst, hnw, rfl⟩
    · rw [hC _ (by omega), if_neg (by omega)]
      obtain ⟨r, i, h1, h2⟩ := hex
      obtain ⟨r', i', g1, g2, g3⟩ := hI.2.1 x hx ⟨r, i, h1, hold x r i e h1 h2⟩
      exact ⟨r', i', g1, hdn r' i' g1.1 g2, g3⟩
  · rw [hA r hl.1] at g
    have hb := ((hV r hl.1).2.2 i hl.2.1).2.2.1
    rw [hC _ (by omega), if_neg (by omega)]
    rcases hI.2.2.1 r i hl g with z | ⟨r', j', g1, g2, g3⟩
    · exact Or.inl z
    · exact Or.inr ⟨r', j', g1, by rw [hA r' g1.1]; exact g2, g3⟩
  · rw [hC _ (by omega), if_neg (by omega)]
    exact hI.2.2.2 j hj (fun r i h1 h2 => hno r i h1 (by rw [hA r h1.1]; exact h2))
theorem sq_R_I {P : sq_P} {s : sq_S} (hP : sq_PL P) (h : sq_R P false s) : sq_I P s := by
  have key : sq_RL P s ∧ sq_I P s := by
    refine h (fun s => sq_RL P s ∧ sq_I P s) ⟨sq_RL_0 P, sq_I_0 P⟩ (fun a c ha hs => ⟨sq_RL_stp hP.1 ha.1 hs, ?_⟩)
    obtain ⟨t, ht, ⟨he, e⟩ | ⟨hw, e⟩⟩ := hs
    · have : sq_Gs P false t a = sq_Go P t a := by simp [sq_Gs]
      rw [e, this]
      exact sq_I_go hP ha.1 ha.2 ht he.1
    · rw [e]
      exact sq_I_re hP.1 ha.1 ha.2 ht hw
  exact key.2
/-! the places of a program, by kinds -/
def sq_all (P : sq_P) : List (Nat × Nat) := (List.range 4).flatMap (fun t => (List.range (sq_n P t)).map (fun i => (t, i)))
def sq_cl (P : sq_P) (q : Nat × Nat) : Nat := if sq_K P q.1 q.2 = 0 then sq_V P q.1 q.2 else if sq_K P q.1 q.2 = 1 then 3 + sq_V P q.1 q.2 else 6
def sq_F (P : sq_P) (k : Nat) : List (Nat × Nat) := (sq_all P).filter (fun q => sq_cl P q == k)
theorem sq_all_in {P : sq_P} {t i : Nat} : (t, i) ∈ sq_all P ↔ t < 4 ∧ i < sq_n P t := by
  unfold sq_all
  rw [List.mem_flatMap]
  constructor
  · rintro ⟨r, h1, h2⟩
    obtain ⟨j, h3, h4⟩ := List.mem_map.mp h2
    rw [List.mem_range] at h1 h3
    have e1 : r = t := congrArg Prod.fst h4
    have e2 : j = i := congrArg Prod.snd h4
    rw [← e1, ← e2]
    exact ⟨h1, h3⟩
  · rintro ⟨h1, h2⟩
    exact ⟨t, List.mem_range.mpr h1, List.mem_map.mpr ⟨i, List.mem_range.mpr h2, rfl⟩⟩
theorem sq_all_len (P : sq_P) : (sq_all P).length = sq_n P 0 + sq_n P 1 + sq_n P 2 + sq_n P 3 := by
  unfold sq_all
  rw [List.length_flatMap, show List.range 4 = [0, 1, 2, 3] from rfl]
  simp only [List.length_map, List.length_range, List.map_cons, List.map_nil, List.sum_cons, List.sum_nil]
  omega
theorem sq_F_in {P : sq_P} {k t i : Nat} : (t, i) ∈ sq_F P k ↔ t < 4 ∧ i < sq_n P t ∧ sq_cl P (t, i) = k := by
  unfold sq_F
  rw [List.mem_filter, sq_all_in]
  simp only [beq_iff_eq]
  constructor
  · rintro ⟨⟨h1, h2⟩, h3⟩; exact ⟨h1, h2, h3⟩
  · rintro ⟨h1, h2, h3⟩; exact ⟨⟨h1, h2⟩, h3⟩
theorem sq_F_st {P : sq_P} {x t i : Nat} (hV : sq_TV P) (hx : x < 3) : (t, i) ∈ sq_F P x ↔ sq_st P x t i := by
  rw [sq_F_in]
  constructor
  · rintro ⟨h1, h2, h3⟩
    have hv := (hV t h1).2.2 i h2
    refine ⟨h1, h2, ?_⟩
    simp only [sq_cl] at h3
    by_cases e : sq_K P t i = 0
    · rw [if_pos e] at h3; exact ⟨e, h3⟩
    · rw [if_neg e] at h3
      by_cases e1 : sq_K P t i = 1
      · rw [if_pos e1] at h3; omega
      · rw [if_neg e1] at h3; omega
  · rintro ⟨h1, h2, h3, h4⟩
    refine ⟨h1, h2, ?_⟩
    simp only [sq_cl]
    rw [if_pos h3, h4]
theorem sq_F_ld {P : sq_P} {x t i : Nat} (hV : sq_TV P) (hx : x < 3) : (t, i) ∈ sq_F P (3 + x) ↔ sq_ld P t i ∧ sq_V P t i = x := by
  rw [sq_F_in]
  constructor
  · rintro ⟨h1, h2, h3⟩
    have hv := (hV t h1).2.2 i h2
    simp only [sq_cl] at h3
    by_cases e : sq_K P t i = 0
    · rw [if_pos e] at h3; omega
    · rw [if_neg e] at h3
      by_cases e1 : sq_K P t i = 1
      · rw [if_pos e1] at h3; exact ⟨⟨h1, h2, e1⟩, by omega⟩
      · rw [if_neg e1] at h3; omega
  · rintro ⟨⟨h1, h2, h3⟩, h4⟩
    refine ⟨h1, h2, ?_⟩
    simp only [sq_cl]
    rw [if_neg (by omega), if_pos h3, h4]
theorem sq_F_fe {P : sq_P} {t i : Nat} (h1 : t < 4) (h2 : i < sq_n P t) (h0 : ¬ sq_K P t i = 0) (h3 : ¬ sq_K P t i = 1) : (t, i) ∈ sq_F P 6 := by
  rw [sq_F_in]
  refine ⟨h1, h2, ?_⟩
  simp only [sq_cl]
  rw [if_neg h0, if_neg h3]
theorem sq_F_sum (P : sq_P) : (sq_F P 0).length + (sq_F P 1).length + (sq_F P 2).length + (sq_F P 3).length + (sq_F P 4).length + (sq_F P 5).length + (sq_F P 6).length ≤ sq_n P 0 + sq_n P 1 + sq_n P 2 + sq_n P 3 := by
  rw [← sq_all_len]
  exact sq_seven (sq_cl P) (sq_all P)
/-! the code of a state -/
def sq_ss (P : sq_P) (s : sq_S) (q : Nat × Nat) : Nat := if sq_A s.1 q.1 ≤ q.2 then 0 else if sq_cnt (sq_K P q.1) q.2 < sq_D s.1 q.1 then 2 else 1
def sq_ls (P : sq_P) (s : sq_S) (q : Nat × Nat) : Nat := if sq_A s.1 q.1 ≤ q.2 then 0 else sq_C s.2 (sq_N P q.1 q.2) + 1
def sq_fs (s : sq_S) (q : Nat × Nat) : Nat := if sq_A s.1 q.1 ≤ q.2 then 0 else 1
def sq_cd (P : sq_P) (s : sq_S) (x : Nat) : List Nat × Nat × List Nat := ((sq_F P x).map (sq_ss P s), sq_C s.2 (6 + x), (sq_F P (3 + x)).map (sq_ls P s))
def sq_UU (P : sq_P) (x : Nat) : List (List Nat × Nat × List Nat) := sq_U ((sq_F P x).map (fun q => sq_W P q.1 q.2)) (sq_F P (3 + x)).length
theorem sq_ss2 {P : sq_P} {s : sq_S} {t i : Nat} (h : sq_RL P s) (ht : t < 4) : sq_c2 (sq_ss P s (t, i)) = true ↔ sq_dn P s t i := by
  simp only [sq_ss, sq_c2, beq_iff_eq]
  constructor
  · intro e
    by_cases h1 : sq_A s.1 t ≤ i
    · rw [if_pos h1] at e; exact absurd e (by decide)
    · rw [if_neg h1] at e
      by_cases h2 : sq_cnt (sq_K P t) i < sq_D s.1 t
      · exact h2
      · rw [if_neg h2] at e; exact absurd e (by decide)
  · intro e
    have := sq_dn_iss h ht e
    rw [if_neg (by omega), if_pos (show sq_cnt (sq_K P t) i < sq_D s.1 t from e)]
theorem sq_ss1 {P : sq_P} {s : sq_S} {t i : Nat} : sq_c1 (sq_ss P s (t, i)) = true ↔ i < sq_A s.1 t := by
  simp only [sq_ss, sq_c1, bne_iff_ne]
  constructor
  · intro e
    by_cases h1 : sq_A s.1 t ≤ i
    · rw [if_pos h1] at e; exact absurd rfl e
    · omega
  · intro e
    rw [if_neg (by omega)]
    by_cases h2 : sq_cnt (sq_K P t) i < sq_D s.1 t
    · rw [if_pos h2]; decide
    · rw [if_neg h2]; decide
theorem sq_cd_in {P : sq_P} {s : sq_S} {x : Nat} (hV : sq_TV P) (h : sq_RL P s) (hI : sq_I P s) (hx : x < 3) : sq_cd P s x ∈ sq_UU P x := by
  unfold sq_cd sq_UU sq_U
  refine List.mem_flatMap.mpr ⟨(sq_F P x).map (sq_ss P s), ?_, List.mem_map.mpr ⟨_, sq_pr_in ?_ ?_, rfl⟩⟩
  · rw [List.length_map, ← List.length_map (f := sq_ss P s)]
    apply sq_pw_in
    intro v hv
    obtain ⟨q, _, e⟩ := List.mem_map.mp hv
    rw [← e]
    unfold sq_ss
    by_cases h1 : sq_A s.1 q.1 ≤ q.2
    · rw [if_pos h1]; decide
    · rw [if_neg h1]
      by_cases h2 : sq_cnt (sq_K P q.1) q.2 < sq_D s.1 q.1
      · rw [if_pos h2]; decide
      · rw [if_neg h2]; decide
  · apply sq_nz_in
    · intro hno
      refine hI.1 x hx (fun t i h1 h2 => ?_)
      exact hno (sq_W P t i) ((sq_dv_in (g := fun q => sq_W P q.1 q.2) _).mpr ⟨(t, i), (sq_F_st hV hx).mpr h1, (sq_ss2 h h1.1).mpr h2, rfl⟩)
    · rintro ⟨v, hv⟩
      obtain ⟨⟨t, i⟩, h1, h2, _⟩ := (sq_dv_in _).mp hv
      have h1' := (sq_F_st hV hx).mp h1
      obtain ⟨r, j, g1, g2, g3⟩ := hI.2.1 x hx ⟨t, i, h1', (sq_ss2 h h1'.1).mp h2⟩
      exact (sq_dv_in (g := fun q => sq_W P q.1 q.2) _).mpr ⟨(r, j), (sq_F_st hV hx).mpr g1, (sq_ss2 h g1.1).mpr g2, g3⟩
  · rw [← List.length_map (f := sq_ls P s)]
    apply sq_pw_in
    intro v hv
    obtain ⟨⟨t, i⟩, h1, e⟩ := List.mem_map.mp hv
    rw [← e]
    have h1' := (sq_F_ld hV hx).mp h1
    simp only [sq_ls]
    by_cases h2 : sq_A s.1 t ≤ i
    · rw [if_pos h2]
      exact List.mem_cons_self
    · rw [if_neg h2]
      refine List.mem_cons_of_mem _ (List.mem_map.mpr ⟨_, sq_op_in (sq_C4 _ _) ?_, rfl⟩)
      rcases hI.2.2.1 t i h1'.1 (by omega) with g | ⟨r, j, g1, g2, g3⟩
      · exact Or.inl g
      · rw [h1'.2] at g1
        exact Or.inr ((sq_dv_in (g := fun q => sq_W P q.1 q.2) _).mpr ⟨(r, j), (sq_F_st hV hx).mpr g1, sq_ss1.mpr g2, g3⟩)
def sq_code (P : sq_P) (s : sq_S) : (List Nat × Nat × List Nat) × (List Nat × Nat × List Nat) × (List Nat × Nat × List Nat) × List Nat := (sq_cd P s 0, sq_cd P s 1, sq_cd P s 2, (sq_F P 6).map (sq_fs s))
theorem sq_ss_A {P : sq_P} {s s' : sq_S} {t i : Nat} (h : sq_ss P s (t, i) = sq_ss P s' (t, i)) : sq_A s.1 t ≤ i ↔ sq_A s'.1 t ≤ i := by
  have h1 := sq_ss1 (P := P) (s := s) (t := t) (i := i)
  have h2 := sq_ss1 (P := P) (s := s') (t := t) (i := i)
  rw [h] at h1
  have h3 := h1.symm.trans h2
  constructor
  · intro g
    rcases Nat.lt_or_ge i (sq_A s'.1 t) with z | z
    · have := h3.mpr z; omega
    · exact z
  · intro g
    rcases Nat.lt_or_ge i (sq_A s.1 t) with z | z
    · have := h3.mp z; omega
    · exact z
theorem sq_ls_A {P : sq_P} {s s' : sq_S} {t i : Nat} (h : sq_ls P s (t, i) = sq_ls P s' (t, i)) : sq_A s.1 t ≤ i ↔ sq_A s'.1 t ≤ i := by
  simp only [sq_ls] at h
  by_cases h1 : sq_A s.1 t ≤ i
  · rw [if_pos h1] at h
    by_cases h2 : sq_A s'.1 t ≤ i
    · exact ⟨fun _ => h2, fun _ => h1⟩
    · rw [if_neg h2] at h; omega
  · rw [if_neg h1] at h
    by_cases h2 : sq_A s'.1 t ≤ i
    · rw [if_pos h2] at h; omega
    · exact ⟨fun z => absurd z h1, fun z => absurd z h2⟩
theorem sq_fs_A {s s' : sq_S} {t i : Nat} (h : sq_fs s (t, i) = sq_fs s' (t, i)) : sq_A s.1 t ≤ i ↔ sq_A s'.1 t ≤ i := by
  simp only [sq_fs] at h
  by_cases h1 : sq_A s.1 t ≤ i
  · rw [if_pos h1] at h
    by_cases h2 : sq_A s'.1 t ≤ i
    · exact ⟨fun _ => h2, fun _ => h1⟩
    · rw [if_neg h2] at h; omega
  · rw [if_neg h1] at h
    by_cases h2 : sq_A s'.1 t ≤ i
    · rw [if_pos h2] at h; omega
    · exact ⟨fun z => absurd z h1, fun z => absurd z h2⟩
theorem sq_le_ext {a b n : Nat} (ha : a ≤ n) (hb : b ≤ n) (h : ∀ i, i < n → (a ≤ i ↔ b ≤ i)) : a = b := by
  rcases Nat.lt_trichotomy a b with g | g | g
  · have := (h a (by omega)).mp (Nat.le_refl _); omega
  · exact g
  · have := (h b (by omega)).mpr (Nat.le_refl _); omega
theorem sq_code_cd {P : sq_P} {s s' : sq_S} (h : sq_code P s = sq_code P s') : (∀ x, x < 3 → sq_cd P s x = sq_cd P s' x) ∧ (sq_F P 6).map (sq_fs s) = (sq_F P 6).map (sq_fs s') := by
  have e0 : sq_cd P s 0 = sq_cd P s' 0 := congrArg Prod.fst h
  have e1 : sq_cd P s 1 = sq_cd P s' 1 := congrArg (fun z => z.2.1) h
  have e2 : sq_cd P s 2 = sq_cd P s' 2 := congrArg (fun z => z.2.2.1) h
  refine ⟨fun x hx => ?_, congrArg (fun z => z.2.2.2) h⟩
  have : x = 0 ∨ x = 1 ∨ x = 2 := by omega
  rcases this with e | e | e <;> rw [e] <;> assumption
theorem sq_code_inj {P : sq_P} {s s' : sq_S} (hP : sq_PL P) (h1 : sq_R P false s) (h2 : sq_R P false s') (h : sq_code P s = sq_code P s') : s = s' := by
  have hV := hP.1
  have l1 := sq_R_RL hV h1
  have l2 := sq_R_RL hV h2
  have i1 := sq_R_I hP h1
  have i2 := sq_R_I hP h2
  obtain ⟨hc, hf⟩ := sq_code_cd h
  have cs : ∀ x t i, sq_st P x t i → x < 3 → sq_ss P s (t, i) = sq_ss P s' (t, i) := fun x t i g hx => List.map_inj_left.mp (congrArg Prod.fst (hc x hx)) _ ((sq_F_st hV hx).mpr g)
  have cl : ∀ x t i, sq_ld P t i → sq_V P t i = x → x < 3 → sq_ls P s (t, i) = sq_ls P s' (t, i) := fun x t i g e hx => List.map_inj_left.mp (congrArg (fun z => z.2.2) (hc x hx)) _ ((sq_F_ld hV hx).mpr ⟨g, e⟩)
  have hA : ∀ t, t < 4 → sq_A s.1 t = sq_A s'.1 t := by
    intro t ht
    refine sq_le_ext (l1.2.2 t ht).1 (l2.2.2 t ht).1 (fun i hi => ?_)
    have hv := (hV t ht).2.2 i hi
    by_cases k0 : sq_K P t i = 0
    · exact sq_ss_A (cs _ t i ⟨ht, hi, k0, rfl⟩ hv.1)
    · by_cases k1 : sq_K P t i = 1
      · exact sq_ls_A (cl _ t i ⟨ht, hi, k1⟩ rfl hv.1)
      · exact sq_fs_A (List.map_inj_left.mp hf _ (sq_F_fe ht hi k0 k1))
  have hd : ∀ (a b : sq_S), sq_RL P a → sq_RL P b → (∀ x t i, sq_st P x t i → x < 3 → sq_ss P a (t, i) = sq_ss P b (t, i)) → ∀ t, t < 4 → ¬ sq_D a.1 t < sq_D b.1 t := by
    intro a b la lb hs t ht g
    have b1 := (lb.2.2 t ht).2
    have b2 := sq_iss_le hV lb ht
    have h6 := sq_six_ok (show sq_D a.1 t < sq_cnt (sq_K P t) (sq_n P t) by omega)
    have hv := (hV t ht).2.2 _ h6.1
    have e := hs _ t _ ⟨ht, h6.1, h6.2.1, rfl⟩ hv.1
    have z1 := (sq_ss2 (i := sq_six (sq_K P t) (sq_D a.1 t) (sq_n P t)) lb ht).mpr (by unfold sq_dn; rw [h6.2.2]; exact g)
    rw [← e] at z1
    have z2 := (sq_ss2 la ht).mp z1
    unfold sq_dn at z2
    rw [h6.2.2] at z2
    exact absurd z2 (Nat.lt_irrefl _)
  have hD : ∀ t, t < 4 → sq_D s.1 t = sq_D s'.1 t := by
    intro t ht
    have z1 := hd s s' l1 l2 cs t ht
    have z2 := hd s' s l2 l1 (fun x t i g hx => (cs x t i g hx).symm) t ht
    omega
  have e1 : s.1 = s'.1 := sq_p_ext l1.1 l2.1 hA hD
  have e2 : s.2 = s'.2 := by
    refine sq_m_ext l1.2.1 l2.2.1 (fun j hj => ?_)
    by_cases hj6 : j < 6
    · by_cases g : ∃ t i, sq_ld P t i ∧ i < sq_A s.1 t ∧ sq_N P t i = j
      · obtain ⟨t, i, g1, g2, g3⟩ := g
        have hv := (hV t g1.1).2.2 i g1.2.1
        have z := cl _ t i g1 rfl hv.1
        simp only [sq_ls] at z
        rw [if_neg (by omega), if_neg (by rw [← hA t g1.1]; omega), g3] at z
        omega
      · rw [i1.2.2.2 j hj6 (fun t i g1 g2 g3 => g ⟨t, i, g1, g2, g3⟩), i2.2.2.2 j hj6 (fun t i g1 g2 g3 => g ⟨t, i, g1, by rw [hA t g1.1]; exact g2, g3⟩)]
    · have z : sq_C s.2 (6 + (j - 6)) = sq_C s'.2 (6 + (j - 6)) := congrArg (fun z => z.2.1) (hc (j - 6) (by omega))
      rw [show 6 + (j - 6) = j by omega] at z
      exact z
  exact Prod.ext e1 e2
theorem sq_mul4 {a b c d e f g h : Nat} (ha : a ≤ b) (hc : c ≤ d) (he : e ≤ f) (hg : g ≤ h) : a * (c * (e * g)) ≤ b * (d * (f * h)) :=
  Nat.mul_le_mul ha (Nat.mul_le_mul hc (Nat.mul_le_mul he hg))
theorem sq_B1 {P : sq_P} (hP : sq_PL P) {l : List sq_S} (hl : l.Nodup) (hr : ∀ s, s ∈ l → sq_R P false s) : l.length ≤ 4096 := by
  have hV := hP.1
  have hs := sq_F_sum P
  have h6 := hP.2.1
  have u0 : (sq_UU P 0).length ≤ 4 ^ ((sq_F P 0).length + (sq_F P 3).length) := by
    have := sq_U_le (vs := (sq_F P 0).map (fun q => sq_W P q.1 q.2)) (b := (sq_F P 3).length) (by rw [List.length_map]; omega)
    rw [List.length_map] at this
    exact this
  have u1 : (sq_UU P 1).length ≤ 4 ^ ((sq_F P 1).length + (sq_F P 4).length) := by
    have := sq_U_le (vs := (sq_F P 1).map (fun q => sq_W P q.1 q.2)) (b := (sq_F P 4).length) (by rw [List.length_map]; omega)
    rw [List.length_map] at this
    exact this
  have u2 : (sq_UU P 2).length ≤ 4 ^ ((sq_F P 2).length + (sq_F P 5).length) := by
    have := sq_U_le (vs := (sq_F P 2).map (fun q => sq_W P q.1 q.2)) (b := (sq_F P 5).length) (by rw [List.length_map]; omega)
    rw [List.length_map] at this
    exact this
  have u3 : (sq_pw [0, 1] (sq_F P 6).length).length ≤ 4 ^ (sq_F P 6).length := by
    rw [sq_pw_len]
    exact Nat.pow_le_pow_left (by decide) _
  have hp := sq_pig (sq_code P) l (sq_pr (sq_UU P 0) (sq_pr (sq_UU P 1) (sq_pr (sq_UU P 2) (sq_pw [0, 1] (sq_F P 6).length)))) hl
    (fun s hs => by
      have g1 := sq_R_RL hV (hr s hs)
      have g2 := sq_R_I hP (hr s hs)
      refine sq_pr_in (sq_cd_in hV g1 g2 (by omega)) (sq_pr_in (sq_cd_in hV g1 g2 (by omega)) (sq_pr_in (sq_cd_in hV g1 g2 (by omega)) ?_))
      rw [← List.length_map (f := sq_fs s)]
      apply sq_pw_in
      intro v hv
      obtain ⟨q, _, e⟩ := List.mem_map.mp hv
      rw [← e]
      unfold sq_fs
      by_cases h1 : sq_A s.1 q.1 ≤ q.2
      · rw [if_pos h1]; decide
      · rw [if_neg h1]; decide)
    (fun a ha b hb e => sq_code_inj hP (hr a ha) (hr b hb) e)
  rw [sq_pr_len, sq_pr_len, sq_pr_len] at hp
  have := sq_mul4 u0 u1 u2 u3
  rw [← Nat.pow_add, ← Nat.pow_add, ← Nat.pow_add] at this
  have h4 : 4 ^ ((sq_F P 0).length + (sq_F P 3).length + ((sq_F P 1).length + (sq_F P 4).length + ((sq_F P 2).length + (sq_F P 5).length + (sq_F P 6).length))) ≤ 4 ^ 6 := Nat.pow_le_pow_right (by decide) (by omega)
  exact Nat.le_trans hp (Nat.le_trans this h4)
/-! outcomes -/
def sq_cd2 (P : sq_P) (m x : Nat) : Nat × List Nat := (sq_C m (6 + x), (sq_F P (3 + x)).map (fun q => sq_C m (sq_N P q.1 q.2)))
def sq_UV (P : sq_P) (x : Nat) : List (Nat × List Nat) := sq_U2 ((sq_F P x).map (fun q => sq_W P q.1 q.2)) (sq_F P (3 + x)).length
theorem sq_fin_all {P : sq_P} {s : sq_S} {t : Nat} (h : sq_RL P s) (hf : sq_Fin P s) (ht : t < 4) : sq_A s.1 t = sq_n P t ∧ sq_D s.1 t = sq_cnt (sq_K P t) (sq_n P t) := by
  have h1 := h.2.2 t ht
  have h2 := hf t ht
  have hw : ¬ sq_D s.1 t < sq_iss P s.1 t := h2.2
  have ha : sq_A s.1 t = sq_n P t := by
    rcases Nat.lt_or_ge (sq_A s.1 t) (sq_n P t) with g | g
    · exact absurd ⟨g, fun z => hw z.2⟩ h2.1
    · omega
  refine ⟨ha, ?_⟩
  have e : sq_iss P s.1 t = sq_cnt (sq_K P t) (sq_n P t) := by unfold sq_iss; rw [ha]
  omega
theorem sq_cd2_in {P : sq_P} {s : sq_S} {x : Nat} (hV : sq_TV P) (h : sq_RL P s) (hI : sq_I P s) (hf : sq_Fin P s) (hx : x < 3) : sq_cd2 P s.2 x ∈ sq_UV P x := by
  unfold sq_cd2 sq_UV sq_U2
  refine sq_pr_in ?_ ?_
  · apply sq_nz_in
    · intro hno
      refine hI.1 x hx (fun t i h1 h2 => ?_)
      exact hno (sq_W P t i) (List.mem_map.mpr ⟨(t, i), (sq_F_st hV hx).mpr h1, rfl⟩)
    · rintro ⟨v, hv⟩
      obtain ⟨⟨t, i⟩, h1, _⟩ := List.mem_map.mp hv
      have h1' := (sq_F_st hV hx).mp h1
      have hd : sq_dn P s t i := by
        unfold sq_dn
        rw [(sq_fin_all h hf h1'.1).2]
        have := sq_cnt_mono (sq_K P t) (show i + 1 ≤ sq_n P t from h1'.2.1)
        rw [sq_cnt_s h1'.2.2.1] at this
        omega
      obtain ⟨r, j, g1, g2, g3⟩ := hI.2.1 x hx ⟨t, i, h1', hd⟩
      exact List.mem_map.mpr ⟨(r, j), (sq_F_st hV hx).mpr g1, g3⟩
  · rw [← List.length_map (f := fun q : Nat × Nat => sq_C s.2 (sq_N P q.1 q.2))]
    apply sq_pw_in
    intro v hv
    obtain ⟨⟨t, i⟩, h1, e⟩ := List.mem_map.mp hv
    rw [← e]
    have h1' := (sq_F_ld hV hx).mp h1
    refine sq_op_in (sq_C4 _ _) ?_
    rcases hI.2.2.1 t i h1'.1 (by rw [(sq_fin_all h hf h1'.1.1).1]; exact h1'.1.2.1) with g | ⟨r, j, g1, g2, g3⟩
    · exact Or.inl g
    · rw [h1'.2] at g1
      exact Or.inr (List.mem_map.mpr ⟨(r, j), (sq_F_st hV hx).mpr g1, g3⟩)
def sq_code2 (P : sq_P) (m : Nat) : (Nat × List Nat) × (Nat × List Nat) × (Nat × List Nat) := (sq_cd2 P m 0, sq_cd2 P m 1, sq_cd2 P m 2)
theorem sq_code2_inj {P : sq_P} {x y : Nat} (hP : sq_PL P) (h1 : sq_Out P false x) (h2 : sq_Out P false y) (h : sq_code2 P x = sq_code2 P y) : x = y := by
  have hV := hP.1
  obtain ⟨s, r1, f1, z1⟩ := h1
  obtain ⟨s', r2, f2, z2⟩ := h2
  rw [← z1, ← z2] at h ⊢
  have l1 := sq_R_RL hV r1
  have l2 := sq_R_RL hV r2
  have i1 := sq_R_I hP r1
  have i2 := sq_R_I hP r2
  have e0 : sq_cd2 P s.2 0 = sq_cd2 P s'.2 0 := congrArg Prod.fst h
  have e1 : sq_cd2 P s.2 1 = sq_cd2 P s'.2 1 := congrArg (fun z => z.2.1) h
  have e2 : sq_cd2 P s.2 2 = sq_cd2 P s'.2 2 := congrArg (fun z => z.2.2) h
  have hc : ∀ x, x < 3 → sq_cd2 P s.2 x = sq_cd2 P s'.2 x := by
    intro x hx
    have : x = 0 ∨ x = 1 ∨ x = 2 := by omega
    rcases this with e | e | e <;> rw [e] <;> assumption
  refine sq_m_ext l1.2.1 l2.2.1 (fun j hj => ?_)
  by_cases hj6 : j < 6
  · by_cases g : ∃ t i, sq_ld P t i ∧ sq_N P t i = j
    · obtain ⟨t, i, g1, g3⟩ := g
      have hv := (hV t g1.1).2.2 i g1.2.1
      have z := List.map_inj_left.mp (congrArg (fun z => z.2) (hc _ hv.1)) _ ((sq_F_ld hV hv.1).mpr ⟨g1, rfl⟩)
      rw [← g3]
      exact z
    · rw [i1.2.2.2 j hj6 (fun t i g1 g2 g3 => g ⟨t, i, g1, g3⟩), i2.2.2.2 j hj6 (fun t i g1 g2 g3 => g ⟨t, i, g1, g3⟩)]
  · have z : sq_C s.2 (6 + (j - 6)) = sq_C s'.2 (6 + (j - 6)) := congrArg (fun z => z.1) (hc (j - 6) (by omega))
    rw [show 6 + (j - 6) = j by omega] at z
    exact z
theorem sq_sq3 {a b c A B C : Nat} (ha : a * a ≤ A) (hb : b * b ≤ B) (hc : c * c ≤ C) : (a * (b * c)) * (a * (b * c)) ≤ A * (B * C) := by
  have : (a * (b * c)) * (a * (b * c)) = (a * a) * ((b * b) * (c * c)) := by
    simp only [Nat.mul_assoc, Nat.mul_left_comm]
  rw [this]
  exact Nat.mul_le_mul ha (Nat.mul_le_mul hb hc)
theorem sq_B2 {P : sq_P} (hP : sq_PL P) {l : List Nat} (hl : l.Nodup) (hr : ∀ x, x ∈ l → sq_Out P false x) : l.length ≤ 512 := by
  have hV := hP.1
  have hs := sq_F_sum P
  have h6 := hP.2.1
  have u0 := sq_U2_le (vs := (sq_F P 0).map (fun q => sq_W P q.1 q.2)) (b := (sq_F P (3 + 0)).length) (by rw [List.length_map]; simp only [Nat.add_zero]; omega)
  have u1 := sq_U2_le (vs := (sq_F P 1).map (fun q => sq_W P q.1 q.2)) (b := (sq_F P (3 + 1)).length) (by rw [List.length_map]; simp only [Nat.reduceAdd]; omega)
  have u2 := sq_U2_le (vs := (sq_F P 2).map (fun q => sq_W P q.1 q.2)) (b := (sq_F P (3 + 2)).length) (by rw [List.length_map]; simp only [Nat.reduceAdd]; omega)
  have hp := sq_pig (sq_code2 P) l (sq_pr (sq_UV P 0) (sq_pr (sq_UV P 1) (sq_UV P 2))) hl
    (fun x hx => by
      obtain ⟨s, g0, gf, e⟩ := hr x hx
      have g1 := sq_R_RL hV g0
      have g2 := sq_R_I hP g0
      rw [← e]
      exact sq_pr_in (sq_cd2_in hV g1 g2 gf (by omega)) (sq_pr_in (sq_cd2_in hV g1 g2 gf (by omega)) (sq_cd2_in hV g1 g2 gf (by omega))))
    (fun a ha b hb e => sq_code2_inj hP (hr a ha) (hr b hb) e)
  rw [sq_pr_len, sq_pr_len] at hp
  have h8 := sq_sq3 u0 u1 u2
  rw [← Nat.pow_add, ← Nat.pow_add, List.length_map, List.length_map, List.length_map] at h8
  have h9 : 8 ^ ((sq_F P 0).length + (sq_F P (3 + 0)).length + ((sq_F P 1).length + (sq_F P (3 + 1)).length + ((sq_F P 2).length + (sq_F P (3 + 2)).length))) ≤ 8 ^ 6 := Nat.pow_le_pow_right (by decide) (by simp only [Nat.reduceAdd, Nat.add_zero]; omega)
  have h10 : l.length * l.length ≤ 512 * 512 := Nat.le_trans (Nat.mul_le_mul hp hp) (Nat.le_trans h8 h9)
  rcases Nat.lt_or_ge 512 l.length with g | g
  · have := Nat.mul_le_mul (show 513 ≤ l.length from g) (show 513 ≤ l.length from g)
    omega
  · exact g
end
section
/-! the walk: what stays (sq_fx), the outcomes (sq_fo), the states (sq_fe), the state at hand (sq_Hd) -/
abbrev sq_FX : Type := Int32 × Int32 × Int32 × Int32 × (Nat → Int32) × (Nat → Int32) × (Nat → Int32) × (Nat → Int32) × (Nat → Int32) × (Nat → Int32) × (Nat → Int32) × (Nat → Int32) × (Nat → Int32) × (Nat → Int32)
def sq_fx (u : St1) : sq_FX := (u.1, u.2.1, u.2.2.2.2.1, u.2.2.2.2.2.2.1, u.2.2.2.2.2.2.2.1, u.2.2.2.2.2.2.2.2.1, u.2.2.2.2.2.2.2.2.2.1, u.2.2.2.2.2.2.2.2.2.2.1, u.2.2.2.2.2.2.2.2.2.2.2.1, u.2.2.2.2.2.2.2.2.2.2.2.2.1, u.2.2.2.2.2.2.2.2.2.2.2.2.2.1, u.2.2.2.2.2.2.2.2.2.2.2.2.2.2.1, u.2.2.2.2.2.2.2.2.2.2.2.2.2.2.2.1, u.2.2.2.2.2.2.2.2.2.2.2.2.2.2.2.2.2.2.2.2.2.2)
def sq_fo (u : St1) : Int32 × (Nat → Int32) := (u.2.2.2.2.2.1, u.2.2.2.2.2.2.2.2.2.2.2.2.2.2.2.2.2.2.2.2.2.1)
def sq_fe (u : St1) : Int32 × (Nat → Int32) × (Nat → Int32) × (Nat → Int32) := (u.2.2.1, u.2.2.2.2.2.2.2.2.2.2.2.2.2.2.2.2.1, u.2.2.2.2.2.2.2.2.2.2.2.2.2.2.2.2.2.1, u.2.2.2.2.2.2.2.2.2.2.2.2.2.2.2.2.2.2.1)
def sq_kp (u u' : St1) : Prop := sq_fx u' = sq_fx u ∧ sq_fo u' = sq_fo u ∧ sq_fe u' = sq_fe u
def sq_Tr (x : sq_FX) (P : sq_P) : Prop := ∀ t, t < 4 → x.2.2.2.2.2.2.2.2.1 t = nI (sq_n P t) ∧ ∀ i, i < sq_n P t → x.2.2.2.2.2.2.2.2.2.1 (t * 12 + i) = nI (sq_K P t i) ∧ x.2.2.2.2.2.2.2.2.2.2.1 (t * 12 + i) = nI (sq_V P t i) ∧ x.2.2.2.2.2.2.2.2.2.2.2.1 (t * 12 + i) = nI (sq_W P t i) ∧ (sq_K P t i = 1 → x.2.2.2.2.2.2.2.2.2.2.2.2.1 (t * 12 + i) = nI (sq_N P t i))
def sq_Hd (u : St1) (s : sq_S) : Prop := (∀ t, t < 4 → u.2.2.2.2.2.2.2.2.2.2.2.2.2.2.2.2.2.2.2.1 t = nI (sq_A s.1 t) ∧ u.2.2.2.2.2.2.2.2.2.2.2.2.2.2.2.2.2.2.2.2.1 t = nI (sq_D s.1 t)) ∧ u.2.2.2.1 = nI s.2
theorem sq_cl12 {a : Nat → Int32} {t i : Nat} {y : Int32} (h : t * 12 + i < 48) (e : a (t * 12 + i) = y) : a (nI t * 12 + nI i).toNatClampNeg = y := by
  rw [sq_12x, nI_clamp (by omega), e]
theorem sq_clt {a : Nat → Int32} {t : Nat} {y : Int32} (h : t < 2 ^ 31) (e : a t = y) : a (nI t).toNatClampNeg = y := by
  rw [nI_clamp h, e]
theorem sq_issued {post : Int32 → Prop} {u : St1} {P : sq_P} {s : sq_S} {t : Nat} (hV : sq_TV P) (hT : sq_Tr (sq_fx u) P) (hH : sq_Hd u s) (hL : sq_RL P s) (ht : t < 4) (h : post (nI (sq_iss P s.1 t))) : wpX_issued post u (nI t) :=
  have hA := (hL.2.2 t ht).1
  have hn := (hV t ht).1
  pk_loop (σ := Unit) (fun n i _ => wX_issued_4 post (nI t) u.1 u.2.1 u.2.2.1 u.2.2.2.1 u.2.2.2.2.1 u.2.2.2.2.2.1 u.2.2.2.2.2.2.1 u.2.2.2.2.2.2.2.1 u.2.2.2.2.2.2.2.2.1 u.2.2.2.2.2.2.2.2.2.1 u.2.2.2.2.2.2.2.2.2.2.1 u.2.2.2.2.2.2.2.2.2.2.2.1 u.2.2.2.2.2.2.2.2.2.2.2.2.1 u.2.2.2.2.2.2.2.2.2.2.2.2.2.1 u.2.2.2.2.2.2.2.2.2.2.2.2.2.2.1 u.2.2.2.2.2.2.2.2.2.2.2.2.2.2.2.1 u.2.2.2.2.2.2.2.2.2.2.2.2.2.2.2.2.1 u.2.2.2.2.2.2.2.2.2.2.2.2.2.2.2.2.2.1 u.2.2.2.2.2.2.2.2.2.2.2.2.2.2.2.2.2.2.1 u.2.2.2.2.2.2.2.2.2.2.2.2.2.2.2.2.2.2.2.1 u.2.2.2.2.2.2.2.2.2.2.2.2.2.2.2.2.2.2.2.2.1 u.2.2.2.2.2.2.2.2.2.2.2.2.2.2.2.2.2.2.2.2.2.1 u.2.2.2.2.2.2.2.2.2.2.2.2.2.2.2.2.2.2.2.2.2.2 n (nI (sq_cnt (sq_K P t) i)) (nI i)) (fun _ _ => True) (sq_A s.1 t) 0 () (Nat.zero_le _) trivial
    (fun n _ _ => ⟨pk_in t 4 ht, pk_le (sq_A s.1 t) (sq_A s.1 t) (fun _ => h) (fun z => absurd z (Nat.lt_irrefl _)) (sq_clt (by omega) (hH.1 t ht).1) rfl⟩)
    (fun n i _ hi _ hw => ⟨pk_in t 4 ht, pk_le (sq_A s.1 t) i (fun z => absurd z (by omega)) (fun _ => ⟨pk_in (t * 12 + i) 48 (by omega) (sq_12x t i),
      pk_eq (sq_K P t i) 0 (fun z => nm_r (by rw [sq_cnt_s z, nI_1]) (nm_r (nI_1 i) (hw () trivial))) (fun z => nm_r (nI_1 i) (by have := hw () trivial; rw [sq_cnt_n z] at this; exact this)) (sq_cl12 (by omega) ((hT t ht).2 i (by omega)).1) rfl (by have := (hV t ht).2.2 i (by omega); omega)⟩)
      (sq_clt (by omega) (hH.1 t ht).1) rfl⟩)
theorem sq_storeAt {post : Int32 → Prop} {u : St1} {P : sq_P} {t r : Nat} (hV : sq_TV P) (hT : sq_Tr (sq_fx u) P) (ht : t < 4) (hr : r < sq_cnt (sq_K P t) (sq_n P t)) (h : post (nI (t * 12 + sq_six (sq_K P t) r (sq_n P t)))) : wpX_storeAt post u (nI t) (nI r) :=
  have hn := (hV t ht).1
  have hc := (hV t ht).2.1
  have h6 := sq_six_ok hr
  pk_loop (σ := Unit) (fun n i _ => wX_storeAt_5 post (nI t) u.1 u.2.1 u.2.2.1 u.2.2.2.1 u.2.2.2.2.1 u.2.2.2.2.2.1 u.2.2.2.2.2.2.1 u.2.2.2.2.2.2.2.1 u.2.2.2.2.2.2.2.2.1 u.2.2.2.2.2.2.2.2.2.1 u.2.2.2.2.2.2.2.2.2.2.1 u.2.2.2.2.2.2.2.2.2.2.2.1 u.2.2.2.2.2.2.2.2.2.2.2.2.1 u.2.2.2.2.2.2.2.2.2.2.2.2.2.1 u.2.2.2.2.2.2.2.2.2.2.2.2.2.2.1 u.2.2.2.2.2.2.2.2.2.2.2.2.2.2.2.1 u.2.2.2.2.2.2.2.2.2.2.2.2.2.2.2.2.1 u.2.2.2.2.2.2.2.2.2.2.2.2.2.2.2.2.2.1 u.2.2.2.2.2.2.2.2.2.2.2.2.2.2.2.2.2.2.1 u.2.2.2.2.2.2.2.2.2.2.2.2.2.2.2.2.2.2.2.1 u.2.2.2.2.2.2.2.2.2.2.2.2.2.2.2.2.2.2.2.2.1 u.2.2.2.2.2.2.2.2.2.2.2.2.2.2.2.2.2.2.2.2.2.1 u.2.2.2.2.2.2.2.2.2.2.2.2.2.2.2.2.2.2.2.2.2.2 n (nI (r - sq_cnt (sq_K P t) i)) (nI i)) (fun _ _ => True) (sq_six (sq_K P t) r (sq_n P t)) 0 () (Nat.zero_le _) trivial
    (fun n _ _ => ⟨pk_in t 4 ht, pk_le (sq_n P t) (sq_six (sq_K P t) r (sq_n P t)) (fun z => absurd z (by omega)) (fun _ => ⟨pk_in (t * 12 + sq_six (sq_K P t) r (sq_n P t)) 48 (by omega) (sq_12x t _),
      br_t (sq_cl12 (by omega) (((hT t ht).2 _ h6.1).1.trans (by rw [h6.2.1]; rfl))) (br_t (by rw [h6.2.2, Nat.sub_self]; rfl) (by rw [sq_12x]; exact h))⟩) (sq_clt (by omega) (hT t ht).1) rfl⟩)
    (fun n i _ hi _ hw => ⟨pk_in t 4 ht, pk_le (sq_n P t) i (fun z => absurd z (by omega)) (fun _ => ⟨pk_in (t * 12 + i) 48 (by omega) (sq_12x t i),
      pk_eq (sq_K P t i) 0 (fun z => by
          have hm := sq_cnt_mono (sq_K P t) (show i + 1 ≤ sq_six (sq_K P t) r (sq_n P t) from hi)
          rw [sq_cnt_s z, h6.2.2] at hm
          have hw' := hw () trivial
          rw [sq_cnt_s z] at hw'
          exact pk_eq (r - sq_cnt (sq_K P t) i) 0 (fun y => absurd y (by omega)) (fun _ => nm_r (sb_m1 (by omega)) (nm_r (nI_1 i) (by rw [show r - sq_cnt (sq_K P t) i - 1 = r - (sq_cnt (sq_K P t) i + 1) by omega]; exact hw'))))
        (fun z => nm_r (nI_1 i) (by have := hw () trivial; rw [sq_cnt_n z] at this; exact this)) (sq_cl12 (by omega) ((hT t ht).2 i (by omega)).1) rfl (by have := (hV t ht).2.2 i (by omega); omega)⟩)
      (sq_clt (by omega) (hT t ht).1) rfl⟩)
theorem sq_inMemory {post : Int32 → Prop} {u : St1} {s : sq_S} {x : Nat} (hH : sq_Hd u s) (hs : s.2 < 262144) (hx : x < 3) (h : post (nI (sq_C s.2 (6 + x)))) : wpX_inMemory post u (nI x) := by
  show post ((u.2.2.2.1 >>> ((12 + (2 * nI x)) &&& 31)) &&& 3)
  rw [hH.2, sq_get (j := 6 + x) (by omega) (by omega) (sq_6x x)]
  exact h
end
section
theorem sq_storeAt' {post : Int32 → Prop} {u : St1} {P : sq_P} {t r : Nat} {y : Int32} (hV : sq_TV P) (hT : sq_Tr (sq_fx u) P) (ht : t < 4) (hr : r < sq_cnt (sq_K P t) (sq_n P t)) (hy : y = nI r) (h : post (nI (t * 12 + sq_six (sq_K P t) r (sq_n P t)))) : wpX_storeAt post u (nI t) y := by
  rw [hy]
  exact sq_storeAt hV hT ht hr h
theorem sq_found {post : Int32 → Prop} {u : St1} {P : sq_P} {s : sq_S} {t x : Nat} {y : Int32} (hV : sq_TV P) (hT : sq_Tr (sq_fx u) P) (hH : sq_Hd u s) (hL : sq_RL P s) (ht : t < 4) (hx : x < 3) (hy : y = nI x) (h : post (nI (sq_fv P s t x))) : wpX_found post u (nI t) y := by
  rw [hy]
  have hi := sq_iss_le hV hL ht
  have hD := (hL.2.2 t ht).2
  have hn := (hV t ht).1
  unfold wpX_found
  refine sq_inMemory hH hL.2.1 hx ?_
  refine sq_issued hV hT hH hL ht ?_
  refine ⟨pk_in t 4 ht, nm_r (sq_clt (by omega) (hH.1 t ht).2) ?_⟩
  refine pk_loop (σ := Unit) (fun n c _ => wX_found_21 post (nI t) (nI x) (nI (sq_iss P s.1 t)) u.1 u.2.1 u.2.2.1 u.2.2.2.1 u.2.2.2.2.1 u.2.2.2.2.2.1 u.2.2.2.2.2.2.1 u.2.2.2.2.2.2.2.1 u.2.2.2.2.2.2.2.2.1 u.2.2.2.2.2.2.2.2.2.1 u.2.2.2.2.2.2.2.2.2.2.1 u.2.2.2.2.2.2.2.2.2.2.2.1 u.2.2.2.2.2.2.2.2.2.2.2.2.1 u.2.2.2.2.2.2.2.2.2.2.2.2.2.1 u.2.2.2.2.2.2.2.2.2.2.2.2.2.2.1 u.2.2.2.2.2.2.2.2.2.2.2.2.2.2.2.1 u.2.2.2.2.2.2.2.2.2.2.2.2.2.2.2.2.1 u.2.2.2.2.2.2.2.2.2.2.2.2.2.2.2.2.2.1 u.2.2.2.2.2.2.2.2.2.2.2.2.2.2.2.2.2.2.1 u.2.2.2.2.2.2.2.2.2.2.2.2.2.2.2.2.2.2.2.1 u.2.2.2.2.2.2.2.2.2.2.2.2.2.2.2.2.2.2.2.2.1 u.2.2.2.2.2.2.2.2.2.2.2.2.2.2.2.2.2.2.2.2.2.1 u.2.2.2.2.2.2.2.2.2.2.2.2.2.2.2.2.2.2.2.2.2.2 n (nI (sq_fq P t x (sq_C s.2 (6 + x)) (sq_D s.1 t) c)) (nI (sq_D s.1 t + c))) (fun _ _ => True) (sq_iss P s.1 t - sq_D s.1 t) 0 () (Nat.zero_le _) trivial ?_ ?_
  · intro n _ _
    exact pk_le (sq_iss P s.1 t) (sq_D s.1 t + (sq_iss P s.1 t - sq_D s.1 t)) (fun _ => h) (fun z => absurd z (by omega))
  · intro n c _ hc _ hw
    have hw' := hw () trivial
    have h6 := sq_six_ok (show sq_D s.1 t + c < sq_cnt (sq_K P t) (sq_n P t) by omega)
    have hb := (hT t ht).2 _ h6.1
    have hv := (hV t ht).2.2 _ h6.1
    refine pk_le (sq_iss P s.1 t) (sq_D s.1 t + c) (fun z => absurd z (by omega)) (fun _ => ?_)
    refine sq_storeAt hV hT ht (show sq_D s.1 t + c < sq_cnt (sq_K P t) (sq_n P t) by omega) ?_
    refine ⟨pk_in (t * 12 + sq_six (sq_K P t) (sq_D s.1 t + c) (sq_n P t)) 48 (by omega), pk_eq (sq_V P t (sq_six (sq_K P t) (sq_D s.1 t + c) (sq_n P t))) x (fun z => ⟨pk_in (t * 12 + sq_six (sq_K P t) (sq_D s.1 t + c) (sq_n P t)) 48 (by omega), nm_r (sq_clt (by omega) hb.2.2.1) (nm_r (nI_1 _) ?_)⟩) (fun z => nm_r (nI_1 _) ?_) (sq_clt (by omega) hb.2.1) rfl⟩
    · unfold sq_fq at hw'
      rw [if_pos z] at hw'
      exact hw'
    · unfold sq_fq at hw'
      rw [if_neg z] at hw'
      exact hw'
theorem sq_writeMemory {post : St1 → Prop} {u : St1} {m x v : Nat} {y z : Int32} (hm : u.2.2.2.1 = nI m) (hx : x < 3) (hv : v < 4) (hy : y = nI x) (hz : z = nI v) (h : post (u.1, u.2.1, u.2.2.1, (nI (sq_set m (6 + x) v)), u.2.2.2.2.1, u.2.2.2.2.2.1, u.2.2.2.2.2.2.1, u.2.2.2.2.2.2.2.1, u.2.2.2.2.2.2.2.2.1, u.2.2.2.2.2.2.2.2.2.1, u.2.2.2.2.2.2.2.2.2.2.1, u.2.2.2.2.2.2.2.2.2.2.2.1, u.2.2.2.2.2.2.2.2.2.2.2.2.1, u.2.2.2.2.2.2.2.2.2.2.2.2.2.1, u.2.2.2.2.2.2.2.2.2.2.2.2.2.2.1, u.2.2.2.2.2.2.2.2.2.2.2.2.2.2.2.1, u.2.2.2.2.2.2.2.2.2.2.2.2.2.2.2.2.1, u.2.2.2.2.2.2.2.2.2.2.2.2.2.2.2.2.2.1, u.2.2.2.2.2.2.2.2.2.2.2.2.2.2.2.2.2.2.1, u.2.2.2.2.2.2.2.2.2.2.2.2.2.2.2.2.2.2.2.1, u.2.2.2.2.2.2.2.2.2.2.2.2.2.2.2.2.2.2.2.2.1, u.2.2.2.2.2.2.2.2.2.2.2.2.2.2.2.2.2.2.2.2.2.1, u.2.2.2.2.2.2.2.2.2.2.2.2.2.2.2.2.2.2.2.2.2.2)) : wpX_writeMemory post u y z := by
  intro f e
  rw [hy, hz, hm, sq_setI (l := 6 + x) (by omega) hv (sq_6x x)] at e
  rw [e]
  exact h
theorem sq_reach {post : St1 → Prop} {u : St1} {P : sq_P} {s : sq_S} {t : Nat} (hV : sq_TV P) (hT : sq_Tr (sq_fx u) P) (hH : sq_Hd u s) (hL : sq_RL P s) (ht : t < 4) (hw : sq_Wt P t s) (h : ∀ u', sq_kp u u' → sq_Hd u' (sq_Re P t s) → post u') : wpX_reach post u (nI t) := by
  have hi := sq_iss_le hV hL ht
  have hw' : sq_D s.1 t < sq_iss P s.1 t := hw
  have hn := (hV t ht).1
  have hd : sq_D s.1 t < 7 := by omega
  have h6 := sq_six_ok (show sq_D s.1 t < sq_cnt (sq_K P t) (sq_n P t) by omega)
  have hb := (hT t ht).2 _ h6.1
  have hv := (hV t ht).2.2 _ h6.1
  refine ⟨pk_in t 4 ht, sq_storeAt' hV hT ht (show sq_D s.1 t < sq_cnt (sq_K P t) (sq_n P t) by omega) (sq_clt (by omega) (hH.1 t ht).2) ⟨pk_in (t * 12 + sq_six (sq_K P t) (sq_D s.1 t) (sq_n P t)) 48 (by omega), pk_in (t * 12 + sq_six (sq_K P t) (sq_D s.1 t) (sq_n P t)) 48 (by omega), sq_writeMemory hH.2 hv.1 hv.2.1 (sq_clt (by omega) hb.2.1) (sq_clt (by omega) hb.2.2.1) ?_⟩⟩
  refine ⟨pk_in t 4 ht, pk_in t 4 ht, ?_⟩
  intro a14 e
  refine h _ ⟨rfl, rfl, rfl⟩ ⟨fun r hr => ⟨?_, ?_⟩, rfl⟩
  · show u.2.2.2.2.2.2.2.2.2.2.2.2.2.2.2.2.2.2.2.1 r = nI (sq_A (s.1 + 16 * 128 ^ t) r)
    rw [sq_A_re ht hr hd]
    exact (hH.1 r hr).1
  · show a14 r = nI (sq_D (s.1 + 16 * 128 ^ t) r)
    rw [sq_D_re ht hr hd, e]
    dsimp only
    rw [nI_clamp (by omega), (hH.1 t ht).2, nI_1]
    by_cases g : r = t
    · rw [if_pos g, g, pk_us]
    · rw [if_neg g, pk_un g]
      exact (hH.1 r hr).2
def sq_bI (b : Bool) : Int32 := if b = true then 1 else 0
theorem sq_g103 {post : Int32 → St1 → Prop} {u : St1} {P : sq_P} {s : sq_S} {t : Nat} {b : Bool} (hV : sq_TV P) (hT : sq_Tr (sq_fx u) P) (hA : ∀ r, r < 4 → u.2.2.2.2.2.2.2.2.2.2.2.2.2.2.2.2.2.2.2.1 r = nI (sq_A s.1 r) ∧ u.2.2.2.2.2.2.2.2.2.2.2.2.2.2.2.2.2.2.2.2.1 r = nI (sq_D s.1 r)) (hM : u.2.2.2.1 = nI (sq_Go P t s).2) (hL : sq_RL P s) (ht : t < 4) (hn : sq_A s.1 t < sq_n P t) (h : ∀ u', sq_kp u u' → sq_Hd u' (sq_Gs P b t s) → post 1 u') : wX_goOn_103 post (nI t) (sq_bI b) (nI (t * 12 + sq_A s.1 t)) u.1 u.2.1 u.2.2.1 u.2.2.2.1 u.2.2.2.2.1 u.2.2.2.2.2.1 u.2.2.2.2.2.2.1 u.2.2.2.2.2.2.2.1 u.2.2.2.2.2.2.2.2.1 u.2.2.2.2.2.2.2.2.2.1 u.2.2.2.2.2.2.2.2.2.2.1 u.2.2.2.2.2.2.2.2.2.2.2.1 u.2.2.2.2.2.2.2.2.2.2.2.2.1 u.2.2.2.2.2.2.2.2.2.2.2.2.2.1 u.2.2.2.2.2.2.2.2.2.2.2.2.2.2.1 u.2.2.2.2.2.2.2.2.2.2.2.2.2.2.2.1 u.2.2.2.2.2.2.2.2.2.2.2.2.2.2.2.2.1 u.2.2.2.2.2.2.2.2.2.2.2.2.2.2.2.2.2.1 u.2.2.2.2.2.2.2.2.2.2.2.2.2.2.2.2.2.2.1 u.2.2.2.2.2.2.2.2.2.2.2.2.2.2.2.2.2.2.2.1 u.2.2.2.2.2.2.2.2.2.2.2.2.2.2.2.2.2.2.2.2.1 u.2.2.2.2.2.2.2.2.2.2.2.2.2.2.2.2.2.2.2.2.2.1 u.2.2.2.2.2.2.2.2.2.2.2.2.2.2.2.2.2.2.2.2.2.2 := by
  have hn12 := (hV t ht).1
  have ha : sq_A s.1 t < 15 := by omega
  have hb := (hT t ht).2 _ hn
  have hk := ((hV t ht).2.2 _ hn).2.2.2
  refine ⟨pk_in t 4 ht, pk_in t 4 ht, ?_⟩
  intro a13 e
  have hHd : sq_Hd (u.1, u.2.1, u.2.2.1, u.2.2.2.1, u.2.2.2.2.1, u.2.2.2.2.2.1, u.2.2.2.2.2.2.1, u.2.2.2.2.2.2.2.1, u.2.2.2.2.2.2.2.2.1, u.2.2.2.2.2.2.2.2.2.1, u.2.2.2.2.2.2.2.2.2.2.1, u.2.2.2.2.2.2.2.2.2.2.2.1, u.2.2.2.2.2.2.2.2.2.2.2.2.1, u.2.2.2.2.2.2.2.2.2.2.2.2.2.1, u.2.2.2.2.2.2.2.2.2.2.2.2.2.2.1, u.2.2.2.2.2.2.2.2.2.2.2.2.2.2.2.1, u.2.2.2.2.2.2.2.2.2.2.2.2.2.2.2.2.1, u.2.2.2.2.2.2.2.2.2.2.2.2.2.2.2.2.2.1, u.2.2.2.2.2.2.2.2.2.2.2.2.2.2.2.2.2.2.1, a13, u.2.2.2.2.2.2.2.2.2.2.2.2.2.2.2.2.2.2.2.2.1, u.2.2.2.2.2.2.2.2.2.2.2.2.2.2.2.2.2.2.2.2.2.1, u.2.2.2.2.2.2.2.2.2.2.2.2.2.2.2.2.2.2.2.2.2.2) (sq_Go P t s) := by
    refine ⟨fun r hr => ⟨?_, ?_⟩, hM⟩
    · show a13 r = nI (sq_A (s.1 + 128 ^ t) r)
      rw [sq_A_go ht hr ha, e, nI_clamp (by omega), (hA t ht).1, nI_1]
      by_cases g : r = t
      · rw [if_pos g, g, pk_us]
      · rw [if_neg g, pk_un g]
        exact (hA r hr).1
    · show u.2.2.2.2.2.2.2.2.2.2.2.2.2.2.2.2.2.2.2.2.1 r = nI (sq_D (s.1 + 128 ^ t) r)
      rw [sq_D_go ht hr ha]
      exact (hA r hr).2
  refine ⟨pk_in (t * 12 + sq_A s.1 t) 48 (by omega), pk_eq (sq_K P t (sq_A s.1 t)) 0 (fun z => ?_) (fun z => ?_) (sq_clt (by omega) hb.1) rfl⟩
  · cases b with
    | false =>
      refine br_t rfl (h _ ⟨rfl, rfl, rfl⟩ ?_)
      have : sq_Gs P false t s = sq_Go P t s := by simp [sq_Gs]
      rw [this]
      exact hHd
    | true =>
      refine br_f (by decide) ?_
      refine sq_reach (u := (u.1, u.2.1, u.2.2.1, u.2.2.2.1, u.2.2.2.2.1, u.2.2.2.2.2.1, u.2.2.2.2.2.2.1, u.2.2.2.2.2.2.2.1, u.2.2.2.2.2.2.2.2.1, u.2.2.2.2.2.2.2.2.2.1, u.2.2.2.2.2.2.2.2.2.2.1, u.2.2.2.2.2.2.2.2.2.2.2.1, u.2.2.2.2.2.2.2.2.2.2.2.2.1, u.2.2.2.2.2.2.2.2.2.2.2.2.2.1, u.2.2.2.2.2.2.2.2.2.2.2.2.2.2.1, u.2.2.2.2.2.2.2.2.2.2.2.2.2.2.2.1, u.2.2.2.2.2.2.2.2.2.2.2.2.2.2.2.2.1, u.2.2.2.2.2.2.2.2.2.2.2.2.2.2.2.2.2.1, u.2.2.2.2.2.2.2.2.2.2.2.2.2.2.2.2.2.2.1, a13, u.2.2.2.2.2.2.2.2.2.2.2.2.2.2.2.2.2.2.2.2.1, u.2.2.2.2.2.2.2.2.2.2.2.2.2.2.2.2.2.2.2.2.2.1, u.2.2.2.2.2.2.2.2.2.2.2.2.2.2.2.2.2.2.2.2.2.2)) hV hT hHd (sq_RL_go hV hL ht hn) ht (sq_go_wt hV hL ht hn z) (fun u' k1 k2 => ?_)
      have : sq_Gs P true t s = sq_Re P t (sq_Go P t s) := by unfold sq_Gs; rw [if_pos ⟨rfl, z⟩]
      refine h u' k1 ?_
      rw [this]
      exact k2
  · refine h _ ⟨rfl, rfl, rfl⟩ ?_
    have : sq_Gs P b t s = sq_Go P t s := by unfold sq_Gs; rw [if_neg (fun y => z y.2)]
    rw [this]
    exact hHd
theorem sq_g60 {post : Int32 → St1 → Prop} {u : St1} {P : sq_P} {s : sq_S} {t : Nat} {b : Bool} (hV : sq_TV P) (hT : sq_Tr (sq_fx u) P) (hH : sq_Hd u s) (hL : sq_RL P s) (ht : t < 4) (hn : sq_A s.1 t < sq_n P t) (h : ∀ u', sq_kp u u' → sq_Hd u' (sq_Gs P b t s) → post 1 u') : wX_goOn_60 post (nI t) (sq_bI b) (nI (t * 12 + sq_A s.1 t)) u.1 u.2.1 u.2.2.1 u.2.2.2.1 u.2.2.2.2.1 u.2.2.2.2.2.1 u.2.2.2.2.2.2.1 u.2.2.2.2.2.2.2.1 u.2.2.2.2.2.2.2.2.1 u.2.2.2.2.2.2.2.2.2.1 u.2.2.2.2.2.2.2.2.2.2.1 u.2.2.2.2.2.2.2.2.2.2.2.1 u.2.2.2.2.2.2.2.2.2.2.2.2.1 u.2.2.2.2.2.2.2.2.2.2.2.2.2.1 u.2.2.2.2.2.2.2.2.2.2.2.2.2.2.1 u.2.2.2.2.2.2.2.2.2.2.2.2.2.2.2.1 u.2.2.2.2.2.2.2.2.2.2.2.2.2.2.2.2.1 u.2.2.2.2.2.2.2.2.2.2.2.2.2.2.2.2.2.1 u.2.2.2.2.2.2.2.2.2.2.2.2.2.2.2.2.2.2.1 u.2.2.2.2.2.2.2.2.2.2.2.2.2.2.2.2.2.2.2.1 u.2.2.2.2.2.2.2.2.2.2.2.2.2.2.2.2.2.2.2.2.1 u.2.2.2.2.2.2.2.2.2.2.2.2.2.2.2.2.2.2.2.2.2.1 u.2.2.2.2.2.2.2.2.2.2.2.2.2.2.2.2.2.2.2.2.2.2 := by
  have hn12 := (hV t ht).1
  have hb := (hT t ht).2 _ hn
  have hv := (hV t ht).2.2 _ hn
  refine ⟨pk_in (t * 12 + sq_A s.1 t) 48 (by omega), pk_eq (sq_K P t (sq_A s.1 t)) 1 (fun z => ⟨pk_in (t * 12 + sq_A s.1 t) 48 (by omega), ?_⟩) (fun z => ?_) (sq_clt (by omega) hb.1) rfl⟩
  · refine sq_found hV hT hH hL ht hv.1 (sq_clt (by omega) hb.2.1) ?_
    refine ⟨pk_in (t * 12 + sq_A s.1 t) 48 (by omega), ?_⟩
    intro f e
    refine sq_g103 (u := (u.1, u.2.1, u.2.2.1, f, u.2.2.2.2.1, u.2.2.2.2.2.1, u.2.2.2.2.2.2.1, u.2.2.2.2.2.2.2.1, u.2.2.2.2.2.2.2.2.1, u.2.2.2.2.2.2.2.2.2.1, u.2.2.2.2.2.2.2.2.2.2.1, u.2.2.2.2.2.2.2.2.2.2.2.1, u.2.2.2.2.2.2.2.2.2.2.2.2.1, u.2.2.2.2.2.2.2.2.2.2.2.2.2.1, u.2.2.2.2.2.2.2.2.2.2.2.2.2.2.1, u.2.2.2.2.2.2.2.2.2.2.2.2.2.2.2.1, u.2.2.2.2.2.2.2.2.2.2.2.2.2.2.2.2.1, u.2.2.2.2.2.2.2.2.2.2.2.2.2.2.2.2.2.1, u.2.2.2.2.2.2.2.2.2.2.2.2.2.2.2.2.2.2.1, u.2.2.2.2.2.2.2.2.2.2.2.2.2.2.2.2.2.2.2.1, u.2.2.2.2.2.2.2.2.2.2.2.2.2.2.2.2.2.2.2.2.1, u.2.2.2.2.2.2.2.2.2.2.2.2.2.2.2.2.2.2.2.2.2.1, u.2.2.2.2.2.2.2.2.2.2.2.2.2.2.2.2.2.2.2.2.2.2)) hV hT hH.1 ?_ hL ht hn (fun u' k1 k2 => h u' k1 k2)
    show f = _
    rw [e, hH.2, sq_clt (a := u.2.2.2.2.2.2.2.2.2.2.2.2.2.2.2.1) (by omega) (hb.2.2.2 z), sq_2x, sq_orI (l := sq_N P t (sq_A s.1 t)) (by omega) (sq_fv_lt hV hL ht) rfl, sq_Go2' z]
  · refine sq_g103 (u := u) hV hT hH.1 ?_ hL ht hn h
    rw [sq_Go2 z]
    exact hH.2
theorem sq_goOn {post : Int32 → St1 → Prop} {u : St1} {P : sq_P} {s : sq_S} {t : Nat} {b : Bool} (hV : sq_TV P) (hT : sq_Tr (sq_fx u) P) (hH : sq_Hd u s) (hL : sq_RL P s) (ht : t < 4) (h0 : ¬ sq_En P t s → post 0 u) (h1 : sq_En P t s → ∀ u', sq_kp u u' → sq_Hd u' (sq_Gs P b t s) → post 1 u') : wpX_goOn post u (nI t) (sq_bI b) := by
  have hn12 := (hV t ht).1
  have hl := hL.2.2 t ht
  have hi := sq_iss_le hV hL ht
  refine ⟨pk_in t 4 ht, pk_in t 4 ht, pk_eq (sq_A s.1 t) (sq_n P t) (fun z => h0 (fun g => ?_)) (fun z => ⟨pk_in t 4 ht, ?_⟩) (sq_clt (by omega) (hH.1 t ht).1) (sq_clt (by omega) (hT t ht).1)⟩
  · have := g.1; omega
  · have hn : sq_A s.1 t < sq_n P t := by omega
    have hb := (hT t ht).2 _ hn
    have hv := (hV t ht).2.2 _ hn
    refine nm_r (e' := nI (t * 12 + sq_A s.1 t)) ?_ ?_
    · rw [sq_clt (by omega) (hH.1 t ht).1, sq_12x]
    · refine sq_issued hV hT hH hL ht ?_
      refine ⟨pk_in t 4 ht, nm_r (e' := nI (sq_iss P s.1 t - sq_D s.1 t)) ?_ ⟨pk_in (t * 12 + sq_A s.1 t) 48 (by omega), ?_⟩⟩
      · rw [sq_clt (by omega) (hH.1 t ht).2, pk_sub hl.2]
      · refine pk_eq (sq_K P t (sq_A s.1 t)) 2 (fun z2 => ?_) (fun z2 => ?_) (sq_clt (by omega) hb.1) rfl
        · refine pk_le (sq_iss P s.1 t - sq_D s.1 t) 0 (fun z3 => sq_g60 hV hT hH hL ht hn (h1 ⟨hn, fun g => ?_⟩)) (fun z3 => h0 (fun g => g.2 ⟨z2, by omega⟩))
          have := g.2
          omega
        · exact sq_g60 hV hT hH hL ht hn (h1 ⟨hn, fun g => z2 g.1⟩)
theorem sq_loadState {post : St1 → Prop} {u : St1} {k : Nat} {s : sq_S} (hk : k < 4096) (hp : s.1 < 268435456) (h10 : u.2.2.2.2.2.2.2.2.2.2.2.2.2.2.2.2.1 k = nI s.1) (h11 : u.2.2.2.2.2.2.2.2.2.2.2.2.2.2.2.2.2.1 k = nI s.2) (h : ∀ u', sq_kp u u' → sq_Hd u' s → post u') : wpX_loadState post u (nI k) := by
  refine pk_loop (σ := (Nat → Int32) × (Nat → Int32)) (fun n i z => wX_loadState_2 post (nI k) u.1 u.2.1 u.2.2.1 u.2.2.2.1 u.2.2.2.2.1 u.2.2.2.2.2.1 u.2.2.2.2.2.2.1 n (nI i) u.2.2.2.2.2.2.2.1 u.2.2.2.2.2.2.2.2.1 u.2.2.2.2.2.2.2.2.2.1 u.2.2.2.2.2.2.2.2.2.2.1 u.2.2.2.2.2.2.2.2.2.2.2.1 u.2.2.2.2.2.2.2.2.2.2.2.2.1 u.2.2.2.2.2.2.2.2.2.2.2.2.2.1 u.2.2.2.2.2.2.2.2.2.2.2.2.2.2.1 u.2.2.2.2.2.2.2.2.2.2.2.2.2.2.2.1 u.2.2.2.2.2.2.2.2.2.2.2.2.2.2.2.2.1 u.2.2.2.2.2.2.2.2.2.2.2.2.2.2.2.2.2.1 u.2.2.2.2.2.2.2.2.2.2.2.2.2.2.2.2.2.2.1 z.1 z.2 u.2.2.2.2.2.2.2.2.2.2.2.2.2.2.2.2.2.2.2.2.2.1 u.2.2.2.2.2.2.2.2.2.2.2.2.2.2.2.2.2.2.2.2.2.2) (fun i z => ∀ r, r < i → z.1 r = nI (sq_A s.1 r) ∧ z.2 r = nI (sq_D s.1 r)) 4 0 (u.2.2.2.2.2.2.2.2.2.2.2.2.2.2.2.2.2.2.2.1, u.2.2.2.2.2.2.2.2.2.2.2.2.2.2.2.2.2.2.2.2.1) (by omega) (fun r hr => absurd hr (by omega)) ?_ ?_
  · intro n z hz
    refine pk_le 4 4 (fun _ => ⟨pk_in k 4096 hk, nm_r (sq_clt (by omega) h11) (h _ ⟨rfl, rfl, rfl⟩ ⟨hz, rfl⟩)⟩) (fun y => absurd y (by omega))
  · intro n i z hi hz hw
    refine pk_le 4 i (fun y => absurd y (by omega)) (fun _ => ⟨pk_in k 4096 hk, pk_in i 4 hi, ?_⟩)
    intro a13 e13
    refine ⟨pk_in k 4096 hk, pk_in i 4 hi, ?_⟩
    intro a14 e14
    refine nm_r (nI_1 i) (hw (a13, a14) (fun r hr => ?_))
    rw [sq_clt (by omega) h10, nI_clamp (by omega), sq_AI hp hi] at e13
    rw [sq_clt (by omega) h10, nI_clamp (by omega), sq_DI hp hi] at e14
    show a13 r = _ ∧ a14 r = _
    rw [e13, e14]
    by_cases g : r = i
    · rw [g, pk_us, pk_us]
      exact ⟨rfl, rfl⟩
    · rw [pk_un g, pk_un g]
      exact hz r (by omega)
end
section
/-! the table of states -/
def sq_hx (s : sq_S) : Int32 := ((nI s.1 * 31) + (nI s.2 * 17)) ^^^ (((nI s.1).toUInt32 >>> ((11 : Int32).toUInt32 &&& Int32.toUInt32 31)).toInt32)
def sq_h (s : sq_S) : Nat := (sq_hx s).toBitVec.toNat % 8192
theorem sq_h_lt (s : sq_S) : sq_h s < 8192 := Nat.mod_lt _ (by decide)
theorem sq_h_eq (s : sq_S) : sq_hx s &&& 8191 = nI (sq_h s) := pk_and (sq_hx s) 13 (by decide)
theorem sq_m1 {i : Nat} (h : i < 2 ^ 31) : nI i ≠ -1 := fun e => nI_pos h (by rw [e]; decide)
def sq_ap (f : Nat → sq_S) (n : Nat) (s : sq_S) : Nat → sq_S := fun i => if i = n then s else f i
theorem sq_ap_n (f : Nat → sq_S) (n : Nat) (s : sq_S) : sq_ap f n s n = s := if_pos rfl
theorem sq_ap_o {f : Nat → sq_S} {n i : Nat} {s : sq_S} (h : i < n) : sq_ap f n s i = f i := if_neg (by omega)
def sq_sm (s : sq_S) : Prop := s.1 < 268435456 ∧ s.2 < 262144
def sq_EL (x : Int32 × (Nat → Int32) × (Nat → Int32) × (Nat → Int32)) (n : Nat) (f : Nat → sq_S) : Prop :=
  x.1 = nI n ∧ n ≤ 4096 ∧ (∀ i, i < n → x.2.1 i = nI (f i).1 ∧ x.2.2.1 i = nI (f i).2 ∧ sq_sm (f i)) ∧
  (∀ h, h < 8192 → x.2.2.2 h = -1 ∨ ∃ i, i < n ∧ x.2.2.2 h = nI i) ∧
  (∀ h k i, h < 8192 → k < 8192 → i < n → x.2.2.2 h = nI i → x.2.2.2 k = nI i → h = k) ∧
  (∀ i, i < n → ∃ d, d < 8192 ∧ x.2.2.2 ((sq_h (f i) + d) % 8192) = nI i ∧ ∀ e, e < d → x.2.2.2 ((sq_h (f i) + e) % 8192) ≠ -1)
theorem sq_EL_add {x : Int32 × (Nat → Int32) × (Nat → Int32) × (Nat → Int32)} {n : Nat} {f : Nat → sq_S} {s : sq_S} {d : Nat} (h : sq_EL x n f) (hn : n < 4096) (hs : sq_sm s) (hd : d < 8192) (h0 : x.2.2.2 ((sq_h s + d) % 8192) = -1) (hp : ∀ e, e < d → x.2.2.2 ((sq_h s + e) % 8192) ≠ -1) :
    sq_EL (nI (n + 1), upd x.2.1 n (nI s.1), upd x.2.2.1 n (nI s.2), upd x.2.2.2 ((sq_h s + d) % 8192) (nI n)) (n + 1) (sq_ap f n s) := by
  obtain ⟨e1, e2, e3, e4, e5, e6⟩ := h
  have hq : (sq_h s + d) % 8192 < 8192 := Nat.mod_lt _ (by decide)
  have hN : ∀ k i, i < n → x.2.2.2 k = nI i → k ≠ (sq_h s + d) % 8192 := by
    intro k i hi hk e
    rw [e, h0] at hk
    exact sq_m1 (by omega) hk.symm
  have hO : ∀ k, k ≠ (sq_h s + d) % 8192 → upd x.2.2.2 ((sq_h s + d) % 8192) (nI n) k = x.2.2.2 k := fun k hk => pk_un hk
  have hne : ∀ k, x.2.2.2 k ≠ -1 → upd x.2.2.2 ((sq_h s + d) % 8192) (nI n) k ≠ -1 := by
    intro k hk
    by_cases e : k = (sq_h s + d) % 8192
    · rw [e, pk_us]; exact sq_m1 (by omega)
    · rw [hO k e]; exact hk
  have hin : ∀ k i, i < n → upd x.2.2.2 ((sq_h s + d) % 8192) (nI n) k = nI i → x.2.2.2 k = nI i := by
    intro k i hi hk
    by_cases e : k = (sq_h s + d) % 8192
    · rw [e, pk_us] at hk
      have := (nI_eq (by omega) (by omega)).mp hk
      omega
    · rw [hO k e] at hk; exact hk
  have hnw : ∀ k, k < 8192 → upd x.2.2.2 ((sq_h s + d) % 8192) (nI n) k = nI n → k = (sq_h s + d) % 8192 := by
    intro k hk8 hk
    by_cases e : k = (sq_h s + d) % 8192
    · exact e
    · rw [hO k e] at hk
      rcases e4 k hk8 with g | ⟨i, hi, g⟩
      · rw [g] at hk; exact absurd hk.symm (sq_m1 (by omega))
      · rw [g] at hk
        have := (nI_eq (by omega) (by omega)).mp hk
        omega
  refine ⟨rfl, by omega, fun i hi => ?_, fun k hk => ?_, fun k k' i hk hk' hi g g' => ?_, fun i hi => ?_⟩
  · by_cases e : i = n
    · rw [e, sq_ap_n]
      exact ⟨pk_us, pk_us, hs⟩
    · rw [sq_ap_o (by omega)]
      have := e3 i (by omega)
      exact ⟨(pk_un e).trans this.1, (pk_un e).trans this.2.1, this.2.2⟩
  · by_cases e : k = (sq_h s + d) % 8192
    · exact Or.inr ⟨n, by omega, by rw [e]; exact pk_us⟩
    · rcases e4 k hk with g | ⟨i, hi, g⟩
      · exact Or.inl ((hO k e).trans g)
      · exact Or.inr ⟨i, by omega, (hO k e).trans g⟩
  · by_cases e : i = n
    · rw [e] at g g'
      rw [hnw k hk g, hnw k' hk' g']
    · exact e5 k k' i hk hk' (by omega) (hin k i (by omega) g) (hin k' i (by omega) g')
  · by_cases e : i = n
    · rw [e, sq_ap_n]
      exact ⟨d, hd, pk_us, fun e' he => hne _ (hp e' he)⟩
    · have hi' : i < n := by omega
      rw [sq_ap_o hi']
      obtain ⟨d', g1, g2, g3⟩ := e6 i hi'
      exact ⟨d', g1, (hO _ (hN _ i hi' g2)).trans g2, fun e' he => hne _ (g3 e' he)⟩
/-- some place of the table is free -/
theorem sq_EL_free {x : Int32 × (Nat → Int32) × (Nat → Int32) × (Nat → Int32)} {n : Nat} {f : Nat → sq_S} (h : sq_EL x n f) (g : Nat) (ha : ∀ e, e < 8192 → x.2.2.2 ((g + e) % 8192) ≠ -1) : False := by
  obtain ⟨e1, e2, e3, e4, e5, e6⟩ := h
  have hall : ∀ k, k < 8192 → ∃ i, i < n ∧ x.2.2.2 k = nI i := by
    intro k hk
    rcases e4 k hk with z | z
    · exfalso
      refine ha ((k + 8192 - g % 8192) % 8192) (Nat.mod_lt _ (by decide)) ?_
      rw [show (g + (k + 8192 - g % 8192) % 8192) % 8192 = k by omega]
      exact z
    · exact z
  have hc : ∀ k, k < 8192 → (x.2.2.2 k).toNatClampNeg < n ∧ x.2.2.2 k = nI (x.2.2.2 k).toNatClampNeg := by
    intro k hk
    obtain ⟨i, hi, z⟩ := hall k hk
    rw [z, nI_clamp (by omega)]
    exact ⟨hi, rfl⟩
  have := sq_pig (fun k => (x.2.2.2 k).toNatClampNeg) (List.range 8192) (List.range n) List.nodup_range
    (fun k hk => List.mem_range.mpr (hc k (List.mem_range.mp hk)).1)
    (fun k hk k' hk' e => by
      have a := hc k (List.mem_range.mp hk)
      have b := hc k' (List.mem_range.mp hk')
      rw [← e] at b
      exact e5 k k' _ (List.mem_range.mp hk) (List.mem_range.mp hk') a.1 a.2 b.2)
  rw [List.length_range, List.length_range] at this
  omega
theorem sq_e126 {post : St1 → Prop} {u : St1} {n d : Nat} {f : Nat → sq_S} {s : sq_S} (hE : sq_EL (sq_fe u) n f) (hM : u.2.2.2.1 = nI s.2) (hs : sq_sm s) (hd : d < 8192) (h0 : u.2.2.2.2.2.2.2.2.2.2.2.2.2.2.2.2.2.2.1 ((sq_h s + d) % 8192) = -1) (hp : ∀ e, e < d → u.2.2.2.2.2.2.2.2.2.2.2.2.2.2.2.2.2.2.1 ((sq_h s + e) % 8192) ≠ -1) (h2 : n = 4096 → post u) (h3 : n < 4096 → ∀ u', sq_fx u' = sq_fx u → sq_fo u' = sq_fo u → sq_EL (sq_fe u') (n + 1) (sq_ap f n s) → post u') : wX_enter_126 post (nI s.1) (nI ((sq_h s + d) % 8192)) u.1 u.2.1 u.2.2.1 u.2.2.2.1 u.2.2.2.2.1 u.2.2.2.2.2.1 u.2.2.2.2.2.2.1 u.2.2.2.2.2.2.2.1 u.2.2.2.2.2.2.2.2.1 u.2.2.2.2.2.2.2.2.2.1 u.2.2.2.2.2.2.2.2.2.2.1 u.2.2.2.2.2.2.2.2.2.2.2.1 u.2.2.2.2.2.2.2.2.2.2.2.2.1 u.2.2.2.2.2.2.2.2.2.2.2.2.2.1 u.2.2.2.2.2.2.2.2.2.2.2.2.2.2.1 u.2.2.2.2.2.2.2.2.2.2.2.2.2.2.2.1 u.2.2.2.2.2.2.2.2.2.2.2.2.2.2.2.2.1 u.2.2.2.2.2.2.2.2.2.2.2.2.2.2.2.2.2.1 u.2.2.2.2.2.2.2.2.2.2.2.2.2.2.2.2.2.2.1 u.2.2.2.2.2.2.2.2.2.2.2.2.2.2.2.2.2.2.2.1 u.2.2.2.2.2.2.2.2.2.2.2.2.2.2.2.2.2.2.2.2.1 u.2.2.2.2.2.2.2.2.2.2.2.2.2.2.2.2.2.2.2.2.2.1 u.2.2.2.2.2.2.2.2.2.2.2.2.2.2.2.2.2.2.2.2.2.2 := by
  have hq : (sq_h s + d) % 8192 < 8192 := Nat.mod_lt _ (by decide)
  have hn := hE.2.1
  have e1 : u.2.2.1 = nI n := hE.1
  refine pk_le 4096 n (fun z => h2 (by omega)) (fun z => ?_) rfl e1
  have hA := sq_EL_add hE z hs hd h0 hp
  refine ⟨pk_in _ 8192 hq, nm_r (e' := upd u.2.2.2.2.2.2.2.2.2.2.2.2.2.2.2.2.2.2.1 ((sq_h s + d) % 8192) (nI n)) (by rw [nI_clamp (by omega), e1]) ?_⟩
  refine ⟨pk_in n 4096 z e1, nm_r (e' := upd u.2.2.2.2.2.2.2.2.2.2.2.2.2.2.2.2.1 n (nI s.1)) (by rw [e1, nI_clamp (by omega)]) ?_⟩
  refine ⟨pk_in n 4096 z e1, nm_r (e' := upd u.2.2.2.2.2.2.2.2.2.2.2.2.2.2.2.2.2.1 n (nI s.2)) (by rw [e1, nI_clamp (by omega), hM]) ?_⟩
  exact nm_r (e' := nI (n + 1)) (by rw [e1, nI_1]) (h3 z _ rfl rfl hA)
theorem sq_e62 {post : St1 → Prop} {u : St1} {n : Nat} {f : Nat → sq_S} {s : sq_S} (hE : sq_EL (sq_fe u) n f) (hM : u.2.2.2.1 = nI s.2) (hs : sq_sm s) (h1 : (∃ i, i < n ∧ f i = s) → post u) (h2 : (∀ i, i < n → f i ≠ s) → n = 4096 → post u) (h3 : (∀ i, i < n → f i ≠ s) → n < 4096 → ∀ u', sq_fx u' = sq_fx u → sq_fo u' = sq_fo u → sq_EL (sq_fe u') (n + 1) (sq_ap f n s) → post u') : ∃ fu, wX_enter_62 post (nI s.1) u.1 u.2.1 u.2.2.1 u.2.2.2.1 u.2.2.2.2.1 u.2.2.2.2.2.1 u.2.2.2.2.2.2.1 u.2.2.2.2.2.2.2.1 u.2.2.2.2.2.2.2.2.1 u.2.2.2.2.2.2.2.2.2.1 u.2.2.2.2.2.2.2.2.2.2.1 u.2.2.2.2.2.2.2.2.2.2.2.1 u.2.2.2.2.2.2.2.2.2.2.2.2.1 u.2.2.2.2.2.2.2.2.2.2.2.2.2.1 u.2.2.2.2.2.2.2.2.2.2.2.2.2.2.1 u.2.2.2.2.2.2.2.2.2.2.2.2.2.2.2.1 u.2.2.2.2.2.2.2.2.2.2.2.2.2.2.2.2.1 u.2.2.2.2.2.2.2.2.2.2.2.2.2.2.2.2.2.1 u.2.2.2.2.2.2.2.2.2.2.2.2.2.2.2.2.2.2.1 u.2.2.2.2.2.2.2.2.2.2.2.2.2.2.2.2.2.2.2.1 u.2.2.2.2.2.2.2.2.2.2.2.2.2.2.2.2.2.2.2.2.1 u.2.2.2.2.2.2.2.2.2.2.2.2.2.2.2.2.2.2.2.2.2.1 u.2.2.2.2.2.2.2.2.2.2.2.2.2.2.2.2.2.2.2.2.2.2 fu (nI (sq_h s)) 0 := by
  have hh := sq_h_lt s
  have key : ∃ fu, wX_enter_62 post (nI s.1) u.1 u.2.1 u.2.2.1 u.2.2.2.1 u.2.2.2.2.1 u.2.2.2.2.2.1 u.2.2.2.2.2.2.1 u.2.2.2.2.2.2.2.1 u.2.2.2.2.2.2.2.2.1 u.2.2.2.2.2.2.2.2.2.1 u.2.2.2.2.2.2.2.2.2.2.1 u.2.2.2.2.2.2.2.2.2.2.2.1 u.2.2.2.2.2.2.2.2.2.2.2.2.1 u.2.2.2.2.2.2.2.2.2.2.2.2.2.1 u.2.2.2.2.2.2.2.2.2.2.2.2.2.2.1 u.2.2.2.2.2.2.2.2.2.2.2.2.2.2.2.1 u.2.2.2.2.2.2.2.2.2.2.2.2.2.2.2.2.1 u.2.2.2.2.2.2.2.2.2.2.2.2.2.2.2.2.2.1 u.2.2.2.2.2.2.2.2.2.2.2.2.2.2.2.2.2.2.1 u.2.2.2.2.2.2.2.2.2.2.2.2.2.2.2.2.2.2.2.1 u.2.2.2.2.2.2.2.2.2.2.2.2.2.2.2.2.2.2.2.2.1 u.2.2.2.2.2.2.2.2.2.2.2.2.2.2.2.2.2.2.2.2.2.1 u.2.2.2.2.2.2.2.2.2.2.2.2.2.2.2.2.2.2.2.2.2.2 fu (nI ((sq_h s + 0) % 8192)) (nI 0) := by
    refine pk_loop (σ := Unit) (fun k i _ => wX_enter_62 post (nI s.1) u.1 u.2.1 u.2.2.1 u.2.2.2.1 u.2.2.2.2.1 u.2.2.2.2.2.1 u.2.2.2.2.2.2.1 u.2.2.2.2.2.2.2.1 u.2.2.2.2.2.2.2.2.1 u.2.2.2.2.2.2.2.2.2.1 u.2.2.2.2.2.2.2.2.2.2.1 u.2.2.2.2.2.2.2.2.2.2.2.1 u.2.2.2.2.2.2.2.2.2.2.2.2.1 u.2.2.2.2.2.2.2.2.2.2.2.2.2.1 u.2.2.2.2.2.2.2.2.2.2.2.2.2.2.1 u.2.2.2.2.2.2.2.2.2.2.2.2.2.2.2.1 u.2.2.2.2.2.2.2.2.2.2.2.2.2.2.2.2.1 u.2.2.2.2.2.2.2.2.2.2.2.2.2.2.2.2.2.1 u.2.2.2.2.2.2.2.2.2.2.2.2.2.2.2.2.2.2.1 u.2.2.2.2.2.2.2.2.2.2.2.2.2.2.2.2.2.2.2.1 u.2.2.2.2.2.2.2.2.2.2.2.2.2.2.2.2.2.2.2.2.1 u.2.2.2.2.2.2.2.2.2.2.2.2.2.2.2.2.2.2.2.2.2.1 u.2.2.2.2.2.2.2.2.2.2.2.2.2.2.2.2.2.2.2.2.2.2 k (nI ((sq_h s + i) % 8192)) (nI i)) (fun i _ => ∀ e, e < i → ∃ j, j < n ∧ u.2.2.2.2.2.2.2.2.2.2.2.2.2.2.2.2.2.2.1 ((sq_h s + e) % 8192) = nI j ∧ f j ≠ s) 8192 0 () (by omega) (fun e he => absurd he (by omega)) ?_ ?_
    · intro k _ hI
      exfalso
      refine sq_EL_free hE (sq_h s) (fun e he => ?_)
      obtain ⟨j, hj, z, _⟩ := hI e he
      have hn := hE.2.1
      intro g
      exact sq_m1 (by omega) (z.symm.trans g)
    · intro k i _ hi hI hw
      have hn := hE.2.1
      have hq : (sq_h s + i) % 8192 < 8192 := Nat.mod_lt _ (by decide)
      have nx : ∀ (j : Nat), j < n → u.2.2.2.2.2.2.2.2.2.2.2.2.2.2.2.2.2.2.1 ((sq_h s + i) % 8192) = nI j → f j ≠ s → wX_enter_112 post (wX_enter_62 post (nI s.1) u.1 u.2.1 u.2.2.1 u.2.2.2.1 u.2.2.2.2.1 u.2.2.2.2.2.1 u.2.2.2.2.2.2.1 u.2.2.2.2.2.2.2.1 u.2.2.2.2.2.2.2.2.1 u.2.2.2.2.2.2.2.2.2.1 u.2.2.2.2.2.2.2.2.2.2.1 u.2.2.2.2.2.2.2.2.2.2.2.1 u.2.2.2.2.2.2.2.2.2.2.2.2.1 u.2.2.2.2.2.2.2.2.2.2.2.2.2.1 u.2.2.2.2.2.2.2.2.2.2.2.2.2.2.1 u.2.2.2.2.2.2.2.2.2.2.2.2.2.2.2.1 u.2.2.2.2.2.2.2.2.2.2.2.2.2.2.2.2.1 u.2.2.2.2.2.2.2.2.2.2.2.2.2.2.2.2.2.1 u.2.2.2.2.2.2.2.2.2.2.2.2.2.2.2.2.2.2.1 u.2.2.2.2.2.2.2.2.2.2.2.2.2.2.2.2.2.2.2.1 u.2.2.2.2.2.2.2.2.2.2.2.2.2.2.2.2.2.2.2.2.1 u.2.2.2.2.2.2.2.2.2.2.2.2.2.2.2.2.2.2.2.2.2.1 u.2.2.2.2.2.2.2.2.2.2.2.2.2.2.2.2.2.2.2.2.2.2 k) (nI s.1) (nI ((sq_h s + i) % 8192)) (nI i) u.1 u.2.1 u.2.2.1 u.2.2.2.1 u.2.2.2.2.1 u.2.2.2.2.2.1 u.2.2.2.2.2.2.1 u.2.2.2.2.2.2.2.1 u.2.2.2.2.2.2.2.2.1 u.2.2.2.2.2.2.2.2.2.1 u.2.2.2.2.2.2.2.2.2.2.1 u.2.2.2.2.2.2.2.2.2.2.2.1 u.2.2.2.2.2.2.2.2.2.2.2.2.1 u.2.2.2.2.2.2.2.2.2.2.2.2.2.1 u.2.2.2.2.2.2.2.2.2.2.2.2.2.2.1 u.2.2.2.2.2.2.2.2.2.2.2.2.2.2.2.1 u.2.2.2.2.2.2.2.2.2.2.2.2.2.2.2.2.1 u.2.2.2.2.2.2.2.2.2.2.2.2.2.2.2.2.2.1 u.2.2.2.2.2.2.2.2.2.2.2.2.2.2.2.2.2.2.1 u.2.2.2.2.2.2.2.2.2.2.2.2.2.2.2.2.2.2.2.1 u.2.2.2.2.2.2.2.2.2.2.2.2.2.2.2.2.2.2.2.2.1 u.2.2.2.2.2.2.2.2.2.2.2.2.2.2.2.2.2.2.2.2.2.1 u.2.2.2.2.2.2.2.2.2.2.2.2.2.2.2.2.2.2.2.2.2.2 := by
        intro j hj z hne
        refine nm_r (e' := nI ((sq_h s + (i + 1)) % 8192)) ?_ (nm_r (nI_1 i) (hw () (fun e he => ?_)))
        · rw [nI_1, pk_andN (k := 13) (by omega) (by decide)]
          congr 1
          omega
        · by_cases g : e = i
          · rw [g]; exact ⟨j, hj, z, hne⟩
          · exact hI e (by omega)
      refine pk_le 8192 i (fun z => absurd z (by omega)) (fun _ => ⟨pk_in _ 8192 hq, ?_⟩)
      rcases hE.2.2.2.1 _ hq with z | ⟨j, hj, z⟩
      · have hno : ∀ j, j < n → f j ≠ s := by
          intro j hj e
          obtain ⟨d, d1, d2, d3⟩ := hE.2.2.2.2.2 j hj
          rw [e] at d2 d3
          rcases Nat.lt_trichotomy d i with g | g | g
          · obtain ⟨j', hj', z', hne⟩ := hI d g
            have : j' = j := (nI_eq (by omega) (by omega)).mp (z'.symm.trans d2)
            rw [this] at hne
            exact hne e
          · rw [g] at d2
            exact sq_m1 (by omega) (d2.symm.trans z)
          · exact d3 i g z
        refine br_t ?_ (sq_e126 hE hM hs hi z (fun e he => ?_) (h2 hno) (h3 hno))
        · rw [nI_clamp (by omega), show u.2.2.2.2.2.2.2.2.2.2.2.2.2.2.2.2.2.2.1 ((sq_h s + i) % 8192) = -1 from z]
          decide
        · obtain ⟨j, hj, z', _⟩ := hI e he
          intro g
          exact sq_m1 (by omega) (z'.symm.trans g)
      · have ez : u.2.2.2.2.2.2.2.2.2.2.2.2.2.2.2.2.2.2.1 (nI ((sq_h s + i) % 8192)).toNatClampNeg = nI j := sq_clt (by omega) z
        have hb := hE.2.2.1 j hj
        have hb1 := hb.2.2.1
        have hb2 := hb.2.2.2
        have hs1 := hs.1
        have hs2 := hs.2
        refine br_f (by rw [ez]; exact nI_pos (by omega)) ⟨pk_in _ 8192 hq, pk_in j 4096 (by omega) ez, ?_⟩
        refine pk_eq (f j).1 s.1 (fun g1 => ⟨pk_in _ 8192 hq, pk_in j 4096 (by omega) ez, ?_⟩) (fun g1 => nx j hj z (fun e => g1 (by rw [e]))) (by rw [ez, nI_clamp (by omega)]; exact hb.1) rfl
        exact pk_eq (f j).2 s.2 (fun g2 => h1 ⟨j, hj, Prod.ext g1 g2⟩) (fun g2 => nx j hj z (fun e => g2 (by rw [e]))) (by rw [ez, nI_clamp (by omega)]; exact hb.2.1) hM
  rw [show (sq_h s + 0) % 8192 = sq_h s by omega] at key
  exact key
theorem sq_enter {post : St1 → Prop} {u : St1} {n : Nat} {f : Nat → sq_S} {s : sq_S} (hE : sq_EL (sq_fe u) n f) (hH : sq_Hd u s) (hs : sq_sm s) (h1 : (∃ i, i < n ∧ f i = s) → post u) (h2 : (∀ i, i < n → f i ≠ s) → n = 4096 → post u) (h3 : (∀ i, i < n → f i ≠ s) → n < 4096 → ∀ u', sq_fx u' = sq_fx u → sq_fo u' = sq_fo u → sq_EL (sq_fe u') (n + 1) (sq_ap f n s) → post u') : wpX_enter post u := by
  have hs1 := hs.1
  have key : ∃ fu, wX_enter_4 post u.1 u.2.1 u.2.2.1 u.2.2.2.1 u.2.2.2.2.1 u.2.2.2.2.2.1 u.2.2.2.2.2.2.1 u.2.2.2.2.2.2.2.1 u.2.2.2.2.2.2.2.2.1 u.2.2.2.2.2.2.2.2.2.1 u.2.2.2.2.2.2.2.2.2.2.1 u.2.2.2.2.2.2.2.2.2.2.2.1 u.2.2.2.2.2.2.2.2.2.2.2.2.1 u.2.2.2.2.2.2.2.2.2.2.2.2.2.1 u.2.2.2.2.2.2.2.2.2.2.2.2.2.2.1 u.2.2.2.2.2.2.2.2.2.2.2.2.2.2.2.1 u.2.2.2.2.2.2.2.2.2.2.2.2.2.2.2.2.1 u.2.2.2.2.2.2.2.2.2.2.2.2.2.2.2.2.2.1 u.2.2.2.2.2.2.2.2.2.2.2.2.2.2.2.2.2.2.1 u.2.2.2.2.2.2.2.2.2.2.2.2.2.2.2.2.2.2.2.1 u.2.2.2.2.2.2.2.2.2.2.2.2.2.2.2.2.2.2.2.2.1 u.2.2.2.2.2.2.2.2.2.2.2.2.2.2.2.2.2.2.2.2.2.1 u.2.2.2.2.2.2.2.2.2.2.2.2.2.2.2.2.2.2.2.2.2.2 fu (nI (s.1 % 128 ^ 0)) (nI 0) := by
    refine pk_loop (σ := Unit) (fun k i _ => wX_enter_4 post u.1 u.2.1 u.2.2.1 u.2.2.2.1 u.2.2.2.2.1 u.2.2.2.2.2.1 u.2.2.2.2.2.2.1 u.2.2.2.2.2.2.2.1 u.2.2.2.2.2.2.2.2.1 u.2.2.2.2.2.2.2.2.2.1 u.2.2.2.2.2.2.2.2.2.2.1 u.2.2.2.2.2.2.2.2.2.2.2.1 u.2.2.2.2.2.2.2.2.2.2.2.2.1 u.2.2.2.2.2.2.2.2.2.2.2.2.2.1 u.2.2.2.2.2.2.2.2.2.2.2.2.2.2.1 u.2.2.2.2.2.2.2.2.2.2.2.2.2.2.2.1 u.2.2.2.2.2.2.2.2.2.2.2.2.2.2.2.2.1 u.2.2.2.2.2.2.2.2.2.2.2.2.2.2.2.2.2.1 u.2.2.2.2.2.2.2.2.2.2.2.2.2.2.2.2.2.2.1 u.2.2.2.2.2.2.2.2.2.2.2.2.2.2.2.2.2.2.2.1 u.2.2.2.2.2.2.2.2.2.2.2.2.2.2.2.2.2.2.2.2.1 u.2.2.2.2.2.2.2.2.2.2.2.2.2.2.2.2.2.2.2.2.2.1 u.2.2.2.2.2.2.2.2.2.2.2.2.2.2.2.2.2.2.2.2.2.2 k (nI (s.1 % 128 ^ i)) (nI i)) (fun _ _ => True) 4 0 () (by omega) trivial ?_ ?_
    · intro k _ _
      show wX_enter_4 post u.1 u.2.1 u.2.2.1 u.2.2.2.1 u.2.2.2.2.1 u.2.2.2.2.2.1 u.2.2.2.2.2.2.1 u.2.2.2.2.2.2.2.1 u.2.2.2.2.2.2.2.2.1 u.2.2.2.2.2.2.2.2.2.1 u.2.2.2.2.2.2.2.2.2.2.1 u.2.2.2.2.2.2.2.2.2.2.2.1 u.2.2.2.2.2.2.2.2.2.2.2.2.1 u.2.2.2.2.2.2.2.2.2.2.2.2.2.1 u.2.2.2.2.2.2.2.2.2.2.2.2.2.2.1 u.2.2.2.2.2.2.2.2.2.2.2.2.2.2.2.1 u.2.2.2.2.2.2.2.2.2.2.2.2.2.2.2.2.1 u.2.2.2.2.2.2.2.2.2.2.2.2.2.2.2.2.2.1 u.2.2.2.2.2.2.2.2.2.2.2.2.2.2.2.2.2.2.1 u.2.2.2.2.2.2.2.2.2.2.2.2.2.2.2.2.2.2.2.1 u.2.2.2.2.2.2.2.2.2.2.2.2.2.2.2.2.2.2.2.2.1 u.2.2.2.2.2.2.2.2.2.2.2.2.2.2.2.2.2.2.2.2.2.1 u.2.2.2.2.2.2.2.2.2.2.2.2.2.2.2.2.2.2.2.2.2.2 (k + 1) (nI (s.1 % 128 ^ 4)) (nI 4)
      rw [Nat.mod_eq_of_lt (show s.1 < 128 ^ 4 by omega)]
      refine pk_le 4 4 (fun _ => nm_r (e' := nI (sq_h s)) ?_ (sq_e62 hE hH.2 hs h1 h2 h3)) (fun z => absurd z (by omega))
      rw [hH.2]
      exact sq_h_eq s
    · intro k i _ hi _ hw
      refine pk_le 4 i (fun z => absurd z (by omega)) (fun _ => ⟨pk_in i 4 hi, pk_in i 4 hi, nm_r (e' := nI (s.1 % 128 ^ (i + 1))) ?_ (nm_r (nI_1 i) (hw () trivial))⟩)
      rw [nI_clamp (by omega), (hH.1 i hi).1, (hH.1 i hi).2, sq_accI hi]
  rw [show s.1 % 128 ^ 0 = 0 from Nat.mod_one _] at key
  exact key
end
section
/-! all steps from a listed state -/
def sq_LI (P : sq_P) (b : Bool) (n : Nat) (f : Nat → sq_S) : Prop := (∀ i j, i < j → j < n → f i ≠ f j) ∧ ∀ i, i < n → sq_R P b (f i)
def sq_Bd (P : sq_P) (b : Bool) : Prop := ∀ n f, sq_LI P b n f → n ≤ 4096
def sq_ex (n : Nat) (f : Nat → sq_S) (n' : Nat) (f' : Nat → sq_S) : Prop := n ≤ n' ∧ ∀ i, i < n → f' i = f i
theorem sq_ex_r (n : Nat) (f : Nat → sq_S) : sq_ex n f n f := ⟨Nat.le_refl _, fun _ _ => rfl⟩
theorem sq_ex_t {n n' n'' : Nat} {f f' f'' : Nat → sq_S} (h : sq_ex n f n' f') (h' : sq_ex n' f' n'' f'') : sq_ex n f n'' f'' :=
  ⟨Nat.le_trans h.1 h'.1, fun i hi => (h'.2 i (Nat.lt_of_lt_of_le hi h.1)).trans (h.2 i hi)⟩
def sq_in (n : Nat) (f : Nat → sq_S) (s : sq_S) : Prop := ∃ i, i < n ∧ f i = s
theorem sq_in_ex {n n' : Nat} {f f' : Nat → sq_S} {s : sq_S} (h : sq_ex n f n' f') (hi : sq_in n f s) : sq_in n' f' s := by
  obtain ⟨i, h1, h2⟩ := hi
  exact ⟨i, Nat.lt_of_lt_of_le h1 h.1, (h.2 i h1).trans h2⟩
theorem sq_LI_add {P : sq_P} {b : Bool} {n : Nat} {f : Nat → sq_S} {s : sq_S} (h : sq_LI P b n f) (hs : sq_R P b s) (hn : ∀ i, i < n → f i ≠ s) : sq_LI P b (n + 1) (sq_ap f n s) := by
  refine ⟨fun i j hij hj => ?_, fun i hi => ?_⟩
  · rw [sq_ap_o (show i < n by omega)]
    by_cases e : j = n
    · rw [e, sq_ap_n]; exact hn i (by omega)
    · rw [sq_ap_o (show j < n by omega)]; exact h.1 i j hij (by omega)
  · by_cases e : i = n
    · rw [e, sq_ap_n]; exact hs
    · rw [sq_ap_o (show i < n by omega)]; exact h.2 i (by omega)
theorem sq_R_sm {P : sq_P} {b : Bool} {s : sq_S} (hV : sq_TV P) (h : sq_R P b s) : sq_sm s := ⟨(sq_R_RL hV h).1, (sq_R_RL hV h).2.1⟩
theorem sq_enter2 {post : St1 → Prop} {u : St1} {P : sq_P} {b : Bool} {n : Nat} {f : Nat → sq_S} {s : sq_S} (hV : sq_TV P) (hE : sq_EL (sq_fe u) n f) (hI : sq_LI P b n f) (hH : sq_Hd u s) (hR : sq_R P b s)
    (h : ∀ u' n' f', sq_fx u' = sq_fx u → sq_fo u' = sq_fo u → sq_EL (sq_fe u') n' f' → sq_LI P b n' f' → sq_ex n f n' f' → (sq_Bd P b → sq_in n' f' s) → post u') : wpX_enter post u := by
  refine sq_enter hE hH (sq_R_sm hV hR) (fun g => h u n f rfl rfl hE hI (sq_ex_r n f) (fun _ => g)) (fun g1 g2 => h u n f rfl rfl hE hI (sq_ex_r n f) (fun hB => ?_)) (fun g1 g2 u' k1 k2 k3 => h u' (n + 1) _ k1 k2 k3 (sq_LI_add hI hR g1) ⟨by omega, fun i hi => sq_ap_o hi⟩ (fun _ => ⟨n, by omega, sq_ap_n f n s⟩))
  have := hB _ _ (sq_LI_add hI hR g1)
  omega
theorem sq_x36 {post : Int32 → St1 → Prop} {u : St1} {P : sq_P} {b : Bool} {n i t k : Nat} {f : Nat → sq_S} {s : sq_S} {any : Int32} (hV : sq_TV P) (hT : sq_Tr (sq_fx u) P) (hE : sq_EL (sq_fe u) n f) (hI : sq_LI P b n f) (hi : i < n) (hs : f i = s) (ht : t < 4)
    (h0 : ¬ sq_Wt P t s → ∀ u', sq_kp u u' → wX_expand_5 post (nI i) (sq_bI b) k any (nI (t + 1)) u'.1 u'.2.1 u'.2.2.1 u'.2.2.2.1 u'.2.2.2.2.1 u'.2.2.2.2.2.1 u'.2.2.2.2.2.2.1 u'.2.2.2.2.2.2.2.1 u'.2.2.2.2.2.2.2.2.1 u'.2.2.2.2.2.2.2.2.2.1 u'.2.2.2.2.2.2.2.2.2.2.1 u'.2.2.2.2.2.2.2.2.2.2.2.1 u'.2.2.2.2.2.2.2.2.2.2.2.2.1 u'.2.2.2.2.2.2.2.2.2.2.2.2.2.1 u'.2.2.2.2.2.2.2.2.2.2.2.2.2.2.1 u'.2.2.2.2.2.2.2.2.2.2.2.2.2.2.2.1 u'.2.2.2.2.2.2.2.2.2.2.2.2.2.2.2.2.1 u'.2.2.2.2.2.2.2.2.2.2.2.2.2.2.2.2.2.1 u'.2.2.2.2.2.2.2.2.2.2.2.2.2.2.2.2.2.2.1 u'.2.2.2.2.2.2.2.2.2.2.2.2.2.2.2.2.2.2.2.1 u'.2.2.2.2.2.2.2.2.2.2.2.2.2.2.2.2.2.2.2.2.1 u'.2.2.2.2.2.2.2.2.2.2.2.2.2.2.2.2.2.2.2.2.2.1 u'.2.2.2.2.2.2.2.2.2.2.2.2.2.2.2.2.2.2.2.2.2.2)
    (h1 : sq_Wt P t s → ∀ u' n' f', sq_fx u' = sq_fx u → sq_fo u' = sq_fo u → sq_EL (sq_fe u') n' f' → sq_LI P b n' f' → sq_ex n f n' f' → (sq_Bd P b → sq_in n' f' (sq_Re P t s)) → wX_expand_5 post (nI i) (sq_bI b) k 1 (nI (t + 1)) u'.1 u'.2.1 u'.2.2.1 u'.2.2.2.1 u'.2.2.2.2.1 u'.2.2.2.2.2.1 u'.2.2.2.2.2.2.1 u'.2.2.2.2.2.2.2.1 u'.2.2.2.2.2.2.2.2.1 u'.2.2.2.2.2.2.2.2.2.1 u'.2.2.2.2.2.2.2.2.2.2.1 u'.2.2.2.2.2.2.2.2.2.2.2.1 u'.2.2.2.2.2.2.2.2.2.2.2.2.1 u'.2.2.2.2.2.2.2.2.2.2.2.2.2.1 u'.2.2.2.2.2.2.2.2.2.2.2.2.2.2.1 u'.2.2.2.2.2.2.2.2.2.2.2.2.2.2.2.1 u'.2.2.2.2.2.2.2.2.2.2.2.2.2.2.2.2.1 u'.2.2.2.2.2.2.2.2.2.2.2.2.2.2.2.2.2.1 u'.2.2.2.2.2.2.2.2.2.2.2.2.2.2.2.2.2.2.1 u'.2.2.2.2.2.2.2.2.2.2.2.2.2.2.2.2.2.2.2.1 u'.2.2.2.2.2.2.2.2.2.2.2.2.2.2.2.2.2.2.2.2.1 u'.2.2.2.2.2.2.2.2.2.2.2.2.2.2.2.2.2.2.2.2.2.1 u'.2.2.2.2.2.2.2.2.2.2.2.2.2.2.2.2.2.2.2.2.2.2) :
    wX_expand_36 post (wX_expand_5 post (nI i) (sq_bI b) k) (nI i) (sq_bI b) any (nI t) u.1 u.2.1 u.2.2.1 u.2.2.2.1 u.2.2.2.2.1 u.2.2.2.2.2.1 u.2.2.2.2.2.2.1 u.2.2.2.2.2.2.2.1 u.2.2.2.2.2.2.2.2.1 u.2.2.2.2.2.2.2.2.2.1 u.2.2.2.2.2.2.2.2.2.2.1 u.2.2.2.2.2.2.2.2.2.2.2.1 u.2.2.2.2.2.2.2.2.2.2.2.2.1 u.2.2.2.2.2.2.2.2.2.2.2.2.2.1 u.2.2.2.2.2.2.2.2.2.2.2.2.2.2.1 u.2.2.2.2.2.2.2.2.2.2.2.2.2.2.2.1 u.2.2.2.2.2.2.2.2.2.2.2.2.2.2.2.2.1 u.2.2.2.2.2.2.2.2.2.2.2.2.2.2.2.2.2.1 u.2.2.2.2.2.2.2.2.2.2.2.2.2.2.2.2.2.2.1 u.2.2.2.2.2.2.2.2.2.2.2.2.2.2.2.2.2.2.2.1 u.2.2.2.2.2.2.2.2.2.2.2.2.2.2.2.2.2.2.2.2.1 u.2.2.2.2.2.2.2.2.2.2.2.2.2.2.2.2.2.2.2.2.2.1 u.2.2.2.2.2.2.2.2.2.2.2.2.2.2.2.2.2.2.2.2.2.2 := by
  have hn := hE.2.1
  have hb := hE.2.2.1 i hi
  have hR := hI.2 i hi
  rw [hs] at hb hR
  have hL := sq_R_RL hV hR
  have hD := (hL.2.2 t ht).2
  have h6 := sq_iss_le hV hL ht
  unfold wX_expand_36
  refine sq_loadState (u := u) (s := s) (by omega) hL.1 hb.1 hb.2.1 (fun u4 k4 d4 => ?_)
  have hT4 : sq_Tr (sq_fx u4) P := by rw [k4.1]; exact hT
  have hE4 : sq_EL (sq_fe u4) n f := by rw [k4.2.2]; exact hE
  refine sq_issued hV hT4 d4 hL ht ?_
  refine ⟨pk_in t 4 ht, nm_r (e' := nI (sq_iss P s.1 t - sq_D s.1 t)) ?_ ?_⟩
  · rw [sq_clt (by omega) (d4.1 t ht).2, pk_sub hD]
  · refine pk_le (sq_iss P s.1 t - sq_D s.1 t) 0 (fun z => nm_r (nI_1 t) (h0 (fun g => ?_) u4 k4)) (fun z => ?_)
    · have g' : sq_D s.1 t < sq_iss P s.1 t := g
      omega
    · have hw : sq_Wt P t s := show sq_D s.1 t < sq_iss P s.1 t by omega
      refine sq_reach hV hT4 d4 hL ht hw (fun u5 k5 d5 => ?_)
      have hE5 : sq_EL (sq_fe u5) n f := by rw [k5.2.2]; exact hE4
      refine sq_enter2 hV hE5 hI d5 (sq_R_s hR ⟨t, ht, Or.inr ⟨hw, rfl⟩⟩) (fun u6 n' f' a1 a2 a3 a4 a5 a6 => nm_r (nI_1 t) ?_)
      exact h1 hw u6 n' f' (a1.trans (k5.1.trans k4.1)) (a2.trans (k5.2.1.trans k4.2.1)) a3 a4 a5 a6
def sq_J (P : sq_P) (b : Bool) (s : sq_S) (u0 : St1) (n0 : Nat) (f0 : Nat → sq_S) (t : Nat) (any : Int32) (u : St1) (n : Nat) (f : Nat → sq_S) : Prop :=
  sq_fx u = sq_fx u0 ∧ sq_fo u = sq_fo u0 ∧ sq_EL (sq_fe u) n f ∧ sq_LI P b n f ∧ sq_ex n0 f0 n f ∧
  ((any = 0 ∧ ∀ r, r < t → ¬ sq_En P r s ∧ ¬ sq_Wt P r s) ∨ (any = 1 ∧ ∃ r, r < t ∧ (sq_En P r s ∨ sq_Wt P r s))) ∧
  (sq_Bd P b → ∀ r, r < t → (sq_En P r s → sq_in n f (sq_Gs P b r s)) ∧ (sq_Wt P r s → sq_in n f (sq_Re P r s)))
theorem sq_expand {post : Int32 → St1 → Prop} {u0 : St1} {P : sq_P} {b : Bool} {n0 i : Nat} {f0 : Nat → sq_S} {s : sq_S} (hV : sq_TV P) (hT : sq_Tr (sq_fx u0) P) (hE : sq_EL (sq_fe u0) n0 f0) (hI : sq_LI P b n0 f0) (hi : i < n0) (hs : f0 i = s)
    (h : ∀ u' n' f' r, sq_fx u' = sq_fx u0 → sq_fo u' = sq_fo u0 → sq_EL (sq_fe u') n' f' → sq_LI P b n' f' → sq_ex n0 f0 n' f' → ((r = 0 ∧ sq_Fin P s) ∨ (r = 1 ∧ ¬ sq_Fin P s)) → (sq_Bd P b → ∀ s', sq_Stp P b s s' → sq_in n' f' s') → post r u') :
    wpX_expand post u0 (nI i) (sq_bI b) := by
  refine pk_loop (σ := Int32 × St1) (fun k t z => wX_expand_5 post (nI i) (sq_bI b) k z.1 (nI t) z.2.1 z.2.2.1 z.2.2.2.1 z.2.2.2.2.1 z.2.2.2.2.2.1 z.2.2.2.2.2.2.1 z.2.2.2.2.2.2.2.1 z.2.2.2.2.2.2.2.2.1 z.2.2.2.2.2.2.2.2.2.1 z.2.2.2.2.2.2.2.2.2.2.1 z.2.2.2.2.2.2.2.2.2.2.2.1 z.2.2.2.2.2.2.2.2.2.2.2.2.1 z.2.2.2.2.2.2.2.2.2.2.2.2.2.1 z.2.2.2.2.2.2.2.2.2.2.2.2.2.2.1 z.2.2.2.2.2.2.2.2.2.2.2.2.2.2.2.1 z.2.2.2.2.2.2.2.2.2.2.2.2.2.2.2.2.1 z.2.2.2.2.2.2.2.2.2.2.2.2.2.2.2.2.2.1 z.2.2.2.2.2.2.2.2.2.2.2.2.2.2.2.2.2.2.1 z.2.2.2.2.2.2.2.2.2.2.2.2.2.2.2.2.2.2.2.1 z.2.2.2.2.2.2.2.2.2.2.2.2.2.2.2.2.2.2.2.2.1 z.2.2.2.2.2.2.2.2.2.2.2.2.2.2.2.2.2.2.2.2.2.1 z.2.2.2.2.2.2.2.2.2.2.2.2.2.2.2.2.2.2.2.2.2.2.1 z.2.2.2.2.2.2.2.2.2.2.2.2.2.2.2.2.2.2.2.2.2.2.2) (fun t z => ∃ n f, sq_J P b s u0 n0 f0 t z.1 z.2 n f) 4 0 (0, u0) (by omega) ⟨n0, f0, rfl, rfl, hE, hI, sq_ex_r _ _, Or.inl ⟨rfl, fun r hr => absurd hr (by omega)⟩, fun _ r hr => absurd hr (by omega)⟩ ?_ ?_
  · rintro k ⟨any, u⟩ ⟨n, f, j1, j2, j3, j4, j5, j6, j7⟩
    refine pk_le 4 4 (fun _ => ⟨?_, h u n f any j1 j2 j3 j4 j5 ?_ ?_⟩) (fun z => absurd z (by omega))
    · rcases j6 with ⟨e, _⟩ | ⟨e, _⟩
      · have e' : any = 0 := e
        rw [e']; exact narrow_b0
      · have e' : any = 1 := e
        rw [e']; exact narrow_b1
    · rcases j6 with ⟨e, g⟩ | ⟨e, r, hr, g⟩
      · exact Or.inl ⟨e, g⟩
      · refine Or.inr ⟨e, fun hf => ?_⟩
        rcases g with g | g
        · exact (hf r hr).1 g
        · exact (hf r hr).2 g
    · rintro hB s' ⟨t, ht, ⟨he, e⟩ | ⟨hw, e⟩⟩
      · rw [e]; exact (j7 hB t ht).1 he
      · rw [e]; exact (j7 hB t ht).2 hw
  · rintro k t ⟨any, u⟩ ht ⟨n, f, j1, j2, j3, j4, j5, j6, j7⟩ hw
    have j1' : sq_fx u = sq_fx u0 := j1
    have j3' : sq_EL (sq_fe u) n f := j3
    have hin : i < n := Nat.lt_of_lt_of_le hi j5.1
    have hfs : f i = s := (j5.2 i hi).trans hs
    have hn := j3'.2.1
    have hb := j3'.2.2.1 i hin
    have hR := j4.2 i hin
    rw [hfs] at hb hR
    have hL := sq_R_RL hV hR
    refine pk_le 4 t (fun z => absurd z (by omega)) (fun _ => ?_)
    refine sq_loadState (u := u) (s := s) (by omega) hL.1 hb.1 hb.2.1 (fun u1 k1 d1 => ?_)
    have hT1 : sq_Tr (sq_fx u1) P := by rw [k1.1, j1']; exact hT
    have hE1 : sq_EL (sq_fe u1) n f := by rw [k1.2.2]; exact j3'
    refine sq_goOn (b := b) hV hT1 d1 hL ht (fun hne => br_t rfl ?_) (fun he u2 k2 d2 => br_f (by decide) ?_)
    · refine sq_x36 (u := u1) hV hT1 hE1 j4 hin hfs ht (fun hnw u' kk => hw (any, u') ⟨n, f, ?_⟩) (fun hww u' n' f' a1 a2 a3 a4 a5 a6 => hw (1, u') ⟨n', f', ?_⟩)
      · refine ⟨kk.1.trans (k1.1.trans j1), kk.2.1.trans (k1.2.1.trans j2), by rw [kk.2.2]; exact hE1, j4, j5, ?_, fun hB r hr => ?_⟩
        · rcases j6 with ⟨e, g⟩ | ⟨e, r, hr, g⟩
          · refine Or.inl ⟨e, fun r hr => ?_⟩
            by_cases er : r = t
            · rw [er]; exact ⟨hne, hnw⟩
            · exact g r (by omega)
          · exact Or.inr ⟨e, r, by omega, g⟩
        · by_cases er : r = t
          · rw [er]; exact ⟨fun z => absurd z hne, fun z => absurd z hnw⟩
          · exact j7 hB r (by omega)
      · refine ⟨a1.trans (k1.1.trans j1), a2.trans (k1.2.1.trans j2), a3, a4, sq_ex_t j5 a5, Or.inr ⟨rfl, t, by omega, Or.inr hww⟩, fun hB r hr => ?_⟩
        by_cases er : r = t
        · rw [er]; exact ⟨fun z => absurd z hne, fun _ => a6 hB⟩
        · have := j7 hB r (by omega)
          exact ⟨fun z => sq_in_ex a5 (this.1 z), fun z => sq_in_ex a5 (this.2 z)⟩
    · have hE2 : sq_EL (sq_fe u2) n f := by rw [k2.2.2]; exact hE1
      refine sq_enter2 hV hE2 j4 d2 (sq_R_s hR ⟨t, ht, Or.inl ⟨he, rfl⟩⟩) (fun u3 n3 f3 b1 b2 b3 b4 b5 b6 => ?_)
      have hT3 : sq_Tr (sq_fx u3) P := by rw [b1, k2.1]; exact hT1
      refine sq_x36 (u := u3) hV hT3 b3 b4 (Nat.lt_of_lt_of_le hin b5.1) ((b5.2 i hin).trans hfs) ht (fun hnw u' kk => hw (1, u') ⟨n3, f3, ?_⟩) (fun hww u' n' f' a1 a2 a3 a4 a5 a6 => hw (1, u') ⟨n', f', ?_⟩)
      · refine ⟨kk.1.trans (b1.trans (k2.1.trans (k1.1.trans j1))), kk.2.1.trans (b2.trans (k2.2.1.trans (k1.2.1.trans j2))), by rw [kk.2.2]; exact b3, b4, sq_ex_t j5 b5, Or.inr ⟨rfl, t, by omega, Or.inl he⟩, fun hB r hr => ?_⟩
        by_cases er : r = t
        · rw [er]; exact ⟨fun _ => b6 hB, fun z => absurd z hnw⟩
        · have := j7 hB r (by omega)
          exact ⟨fun z => sq_in_ex b5 (this.1 z), fun z => sq_in_ex b5 (this.2 z)⟩
      · refine ⟨a1.trans (b1.trans (k2.1.trans (k1.1.trans j1))), a2.trans (b2.trans (k2.2.1.trans (k1.2.1.trans j2))), a3, a4, sq_ex_t j5 (sq_ex_t b5 a5), Or.inr ⟨rfl, t, by omega, Or.inl he⟩, fun hB r hr => ?_⟩
        by_cases er : r = t
        · rw [er]; exact ⟨fun _ => sq_in_ex a5 (b6 hB), fun _ => a6 hB⟩
        · have := j7 hB r (by omega)
          exact ⟨fun z => sq_in_ex a5 (sq_in_ex b5 (this.1 z)), fun z => sq_in_ex a5 (sq_in_ex b5 (this.2 z))⟩
end
section
/-! outcomes in order -/
def sq_OL (x : Int32 × (Nat → Int32)) (n : Nat) (f : Nat → Nat) : Prop := x.1 = nI n ∧ n ≤ 512 ∧ (∀ i, i < n → x.2 i = nI (f i) ∧ f i < 262144) ∧ (∀ i j, i < j → j < n → f i < f j)
def sq_mb (n : Nat) (f : Nat → Nat) (x : Nat) : Prop := ∃ i, i < n ∧ f i = x
def sq_sel (b : Bool) (u : St1) : Int32 × (Nat → Int32) := if b = true then (u.2.2.2.2.2.2.1, u.2.2.2.2.2.2.2.2.2.2.2.2.2.2.2.2.2.2.2.2.2.2) else (u.2.2.2.2.2.1, u.2.2.2.2.2.2.2.2.2.2.2.2.2.2.2.2.2.2.2.2.2.1)
theorem sq_has_pure {n low y : Nat} {f : Nat → Nat} (hs : ∀ i j, i < j → j < n → f i < f j) (h1 : ∀ k, k < low → f k < y) (hl : low < n) (he : f low ≠ y) (h2 : y ≤ f low) : ¬ sq_mb n f y := by
  rintro ⟨i, hi, e⟩
  rcases Nat.lt_trichotomy i low with g | g | g
  · have := h1 i g; omega
  · rw [g] at e; exact he e
  · have := hs low i g hi; omega
theorem sq_has {post : Int32 → Prop} {u : St1} {b : Bool} {n y : Nat} {f : Nat → Nat} {w : Int32} (hO : sq_OL (sq_sel b u) n f) (hw : w = nI y) (hy : y < 262144) (h1 : sq_mb n f y → post 1) (h0 : ¬ sq_mb n f y → post 0) : wpX_has post u (sq_bI b) w := by
  rw [hw]
  obtain ⟨o1, o2, o3, o4⟩ := hO
  have st : ∀ i low, i < n → (low ≤ i ∧ (∀ k, k < low → f k < y) ∧ ∀ k, low ≤ k → k < i → y ≤ f k) → (y ≤ f i → (low ≤ i + 1 ∧ (∀ k, k < low → f k < y) ∧ ∀ k, low ≤ k → k < i + 1 → y ≤ f k)) ∧ (f i < y → (i + 1 ≤ i + 1 ∧ (∀ k, k < i + 1 → f k < y) ∧ ∀ k, i + 1 ≤ k → k < i + 1 → y ≤ f k)) := by
    rintro i low hi ⟨g1, g2, g3⟩
    refine ⟨fun z => ⟨by omega, g2, fun k hk hk' => ?_⟩, fun z => ⟨Nat.le_refl _, fun k hk => ?_, fun k hk hk' => absurd hk (by omega)⟩⟩
    · by_cases e : k = i
      · rw [e]; exact z
      · exact g3 k hk (by omega)
    · by_cases e : k = i
      · rw [e]; exact z
      · have := o4 k i (by omega) hi; omega
  have en : ∀ low, (low ≤ n ∧ (∀ k, k < low → f k < y) ∧ ∀ k, low ≤ k → k < n → y ≤ f k) → low = n → ¬ sq_mb n f y := by
    rintro low ⟨g1, g2, g3⟩ e ⟨i, hi, e2⟩
    have := g2 i (by omega)
    omega
  cases b with
  | false =>
    have o1' : u.2.2.2.2.2.1 = nI n := o1
    have o3' : ∀ i, i < n → u.2.2.2.2.2.2.2.2.2.2.2.2.2.2.2.2.2.2.2.2.2.1 i = nI (f i) ∧ f i < 262144 := o3
    refine br_t rfl ?_
    refine pk_loop (σ := Nat) (fun k i low => wX_has_22 post 0 (nI y) u.2.2.2.2.2.1 u.1 u.2.1 u.2.2.1 u.2.2.2.1 u.2.2.2.2.1 u.2.2.2.2.2.1 u.2.2.2.2.2.2.1 u.2.2.2.2.2.2.2.1 u.2.2.2.2.2.2.2.2.1 u.2.2.2.2.2.2.2.2.2.1 u.2.2.2.2.2.2.2.2.2.2.1 u.2.2.2.2.2.2.2.2.2.2.2.1 u.2.2.2.2.2.2.2.2.2.2.2.2.1 u.2.2.2.2.2.2.2.2.2.2.2.2.2.1 u.2.2.2.2.2.2.2.2.2.2.2.2.2.2.1 u.2.2.2.2.2.2.2.2.2.2.2.2.2.2.2.1 u.2.2.2.2.2.2.2.2.2.2.2.2.2.2.2.2.1 u.2.2.2.2.2.2.2.2.2.2.2.2.2.2.2.2.2.1 u.2.2.2.2.2.2.2.2.2.2.2.2.2.2.2.2.2.2.1 u.2.2.2.2.2.2.2.2.2.2.2.2.2.2.2.2.2.2.2.1 u.2.2.2.2.2.2.2.2.2.2.2.2.2.2.2.2.2.2.2.2.1 u.2.2.2.2.2.2.2.2.2.2.2.2.2.2.2.2.2.2.2.2.2.1 u.2.2.2.2.2.2.2.2.2.2.2.2.2.2.2.2.2.2.2.2.2.2 k (nI low) (nI i)) (fun i low => low ≤ i ∧ (∀ k, k < low → f k < y) ∧ ∀ k, low ≤ k → k < i → y ≤ f k) n 0 0 (Nat.zero_le _) ⟨Nat.le_refl _, fun k hk => absurd hk (by omega), fun k _ hk => absurd hk (by omega)⟩ ?_ ?_
    · intro k low hI
      refine pk_le n n (fun _ => pk_eq low n (fun z => h0 (en low hI z)) (fun z => br_t rfl ⟨pk_in low 512 (by have := hI.1; omega), ?_⟩) rfl o1' (by have := hI.1; omega)) (fun z => absurd z (by omega)) o1' rfl
      have hl : low < n := by have := hI.1; omega
      have hb := o3' low hl
      exact pk_eq (f low) y (fun z => h1 ⟨low, hl, z⟩) (fun z => h0 (sq_has_pure o4 hI.2.1 hl z (hI.2.2 low (Nat.le_refl _) hl))) (sq_clt (by omega) hb.1) rfl
    · intro k i low hi hI hw
      have hb := o3' i hi
      refine pk_le n i (fun z => absurd z (by omega)) (fun _ => br_t rfl ⟨pk_in i 512 (by omega), ?_⟩) o1' rfl
      exact pk_le y (f i) (fun z => nm_r (nI_1 i) (hw low ((st i low hi hI).1 z))) (fun z => nm_r (nI_1 i) (nm_r (nI_1 i) (hw (i + 1) ((st i low hi hI).2 z)))) rfl (sq_clt (by omega) hb.1)
  | true =>
    have o1' : u.2.2.2.2.2.2.1 = nI n := o1
    have o3' : ∀ i, i < n → u.2.2.2.2.2.2.2.2.2.2.2.2.2.2.2.2.2.2.2.2.2.2 i = nI (f i) ∧ f i < 262144 := o3
    refine br_f (by decide) ?_
    refine pk_loop (σ := Nat) (fun k i low => wX_has_22 post 1 (nI y) u.2.2.2.2.2.2.1 u.1 u.2.1 u.2.2.1 u.2.2.2.1 u.2.2.2.2.1 u.2.2.2.2.2.1 u.2.2.2.2.2.2.1 u.2.2.2.2.2.2.2.1 u.2.2.2.2.2.2.2.2.1 u.2.2.2.2.2.2.2.2.2.1 u.2.2.2.2.2.2.2.2.2.2.1 u.2.2.2.2.2.2.2.2.2.2.2.1 u.2.2.2.2.2.2.2.2.2.2.2.2.1 u.2.2.2.2.2.2.2.2.2.2.2.2.2.1 u.2.2.2.2.2.2.2.2.2.2.2.2.2.2.1 u.2.2.2.2.2.2.2.2.2.2.2.2.2.2.2.1 u.2.2.2.2.2.2.2.2.2.2.2.2.2.2.2.2.1 u.2.2.2.2.2.2.2.2.2.2.2.2.2.2.2.2.2.1 u.2.2.2.2.2.2.2.2.2.2.2.2.2.2.2.2.2.2.1 u.2.2.2.2.2.2.2.2.2.2.2.2.2.2.2.2.2.2.2.1 u.2.2.2.2.2.2.2.2.2.2.2.2.2.2.2.2.2.2.2.2.1 u.2.2.2.2.2.2.2.2.2.2.2.2.2.2.2.2.2.2.2.2.2.1 u.2.2.2.2.2.2.2.2.2.2.2.2.2.2.2.2.2.2.2.2.2.2 k (nI low) (nI i)) (fun i low => low ≤ i ∧ (∀ k, k < low → f k < y) ∧ ∀ k, low ≤ k → k < i → y ≤ f k) n 0 0 (Nat.zero_le _) ⟨Nat.le_refl _, fun k hk => absurd hk (by omega), fun k _ hk => absurd hk (by omega)⟩ ?_ ?_
    · intro k low hI
      refine pk_le n n (fun _ => pk_eq low n (fun z => h0 (en low hI z)) (fun z => br_f (by decide) ⟨pk_in low 512 (by have := hI.1; omega), ?_⟩) rfl o1' (by have := hI.1; omega)) (fun z => absurd z (by omega)) o1' rfl
      have hl : low < n := by have := hI.1; omega
      have hb := o3' low hl
      exact pk_eq (f low) y (fun z => h1 ⟨low, hl, z⟩) (fun z => h0 (sq_has_pure o4 hI.2.1 hl z (hI.2.2 low (Nat.le_refl _) hl))) (sq_clt (by omega) hb.1) rfl
    · intro k i low hi hI hw
      have hb := o3' i hi
      refine pk_le n i (fun z => absurd z (by omega)) (fun _ => br_f (by decide) ⟨pk_in i 512 (by omega), ?_⟩) o1' rfl
      exact pk_le y (f i) (fun z => nm_r (nI_1 i) (hw low ((st i low hi hI).1 z))) (fun z => nm_r (nI_1 i) (nm_r (nI_1 i) (hw (i + 1) ((st i low hi hI).2 z)))) rfl (sq_clt (by omega) hb.1)
def sq_ins (f : Nat → Nat) (k y : Nat) : Nat → Nat := fun j => if j < k then f j else if j = k then y else f (j - 1)
theorem sq_ins_lo {f : Nat → Nat} {k y j : Nat} (h : j < k) : sq_ins f k y j = f j := if_pos h
theorem sq_ins_at (f : Nat → Nat) (k y : Nat) : sq_ins f k y k = y := by
  unfold sq_ins
  rw [if_neg (Nat.lt_irrefl _), if_pos rfl]
theorem sq_ins_hi {f : Nat → Nat} {k y j : Nat} (h : k < j) : sq_ins f k y j = f (j - 1) := by
  unfold sq_ins
  rw [if_neg (by omega), if_neg (by omega)]
theorem sq_OL_ins {x : Int32 × (Nat → Int32)} {n k y : Nat} {f : Nat → Nat} {a : Nat → Int32} (h : sq_OL x n f) (hn : n < 512) (hk : k ≤ n) (hy : y < 262144) (h1 : ∀ j, j < k → f j < y) (h2 : ∀ j, k ≤ j → j < n → y < f j) (a1 : ∀ j, j < k → a j = nI (f j)) (a2 : ∀ j, k < j → j ≤ n → a j = nI (f (j - 1))) (a3 : a k = nI y) : sq_OL (nI (n + 1), a) (n + 1) (sq_ins f k y) := by
  obtain ⟨o1, o2, o3, o4⟩ := h
  refine ⟨rfl, by omega, fun i hi => ?_, fun i j hij hj => ?_⟩
  · rcases Nat.lt_trichotomy i k with g | g | g
    · rw [sq_ins_lo g]; exact ⟨a1 i g, (o3 i (by omega)).2⟩
    · rw [g, sq_ins_at]; exact ⟨a3, hy⟩
    · rw [sq_ins_hi g]; exact ⟨a2 i g (by omega), (o3 (i - 1) (by omega)).2⟩
  · rcases Nat.lt_trichotomy i k with g | g | g
    · rw [sq_ins_lo g]
      rcases Nat.lt_trichotomy j k with g' | g' | g'
      · rw [sq_ins_lo g']; exact o4 i j hij (by omega)
      · rw [g', sq_ins_at]; exact h1 i g
      · rw [sq_ins_hi g']
        have := h1 i g
        have := h2 (j - 1) (by omega) (by omega)
        omega
    · rw [g, sq_ins_at, sq_ins_hi (by omega)]
      exact h2 (j - 1) (by omega) (by omega)
    · rw [sq_ins_hi g, sq_ins_hi (by omega)]
      exact o4 (i - 1) (j - 1) (by omega) (by omega)
theorem sq_mb_ins {n k y z : Nat} {f : Nat → Nat} (hk : k ≤ n) : sq_mb (n + 1) (sq_ins f k y) z ↔ sq_mb n f z ∨ z = y := by
  constructor
  · rintro ⟨i, hi, e⟩
    rcases Nat.lt_trichotomy i k with g | g | g
    · rw [sq_ins_lo g] at e; exact Or.inl ⟨i, by omega, e⟩
    · rw [g, sq_ins_at] at e; exact Or.inr e.symm
    · rw [sq_ins_hi g] at e; exact Or.inl ⟨i - 1, by omega, e⟩
  · rintro (⟨i, hi, e⟩ | e)
    · rcases Nat.lt_or_ge i k with g | g
      · exact ⟨i, by omega, by rw [sq_ins_lo g]; exact e⟩
      · exact ⟨i + 1, by omega, by rw [sq_ins_hi (by omega)]; exact e⟩
    · exact ⟨k, by omega, by rw [sq_ins_at]; exact e.symm⟩
theorem sq_n78 {post : St1 → Prop} {u : St1} {n k y : Nat} {f : Nat → Nat} {a : Nat → Int32} (hO : sq_OL (sq_fo u) n f) (hn : n < 512) (hk : k ≤ n) (hy : y < 262144) (h1 : ∀ j, j < k → f j < y) (h2 : ∀ j, k ≤ j → j < n → y < f j) (a1 : ∀ j, j < k → a j = nI (f j)) (a2 : ∀ j, k < j → j ≤ n → a j = nI (f (j - 1)))
    (h : ∀ u' f', sq_fx u' = sq_fx u → sq_fe u' = sq_fe u → sq_OL (sq_fo u') (n + 1) f' → (∀ z, sq_mb (n + 1) f' z ↔ sq_mb n f z ∨ z = y) → post u') :
    wX_note_78 post (nI y) (nI k) u.1 u.2.1 u.2.2.1 u.2.2.2.1 u.2.2.2.2.1 u.2.2.2.2.2.1 u.2.2.2.2.2.2.1 u.2.2.2.2.2.2.2.1 u.2.2.2.2.2.2.2.2.1 u.2.2.2.2.2.2.2.2.2.1 u.2.2.2.2.2.2.2.2.2.2.1 u.2.2.2.2.2.2.2.2.2.2.2.1 u.2.2.2.2.2.2.2.2.2.2.2.2.1 u.2.2.2.2.2.2.2.2.2.2.2.2.2.1 u.2.2.2.2.2.2.2.2.2.2.2.2.2.2.1 u.2.2.2.2.2.2.2.2.2.2.2.2.2.2.2.1 u.2.2.2.2.2.2.2.2.2.2.2.2.2.2.2.2.1 u.2.2.2.2.2.2.2.2.2.2.2.2.2.2.2.2.2.1 u.2.2.2.2.2.2.2.2.2.2.2.2.2.2.2.2.2.2.1 u.2.2.2.2.2.2.2.2.2.2.2.2.2.2.2.2.2.2.2.1 u.2.2.2.2.2.2.2.2.2.2.2.2.2.2.2.2.2.2.2.2.1 a u.2.2.2.2.2.2.2.2.2.2.2.2.2.2.2.2.2.2.2.2.2.2 := by
  have e1 : u.2.2.2.2.2.1 = nI n := hO.1
  refine ⟨pk_in k 512 (by omega), nm_r (e' := upd a k (nI y)) (by rw [nI_clamp (by omega)]) (nm_r (e' := nI (n + 1)) (by rw [e1, nI_1]) (h _ (sq_ins f k y) rfl rfl ?_ (fun z => sq_mb_ins hk)))⟩
  exact sq_OL_ins hO hn hk hy h1 h2 (fun j hj => (pk_un (by omega)).trans (a1 j hj)) (fun j hj hj' => (pk_un (by omega)).trans (a2 j hj hj')) pk_us
theorem sq_note {post : St1 → Prop} {u : St1} {n y : Nat} {f : Nat → Nat} {w : Int32} (hO : sq_OL (sq_fo u) n f) (hw : w = nI y) (hy : y < 262144) (h1 : sq_mb n f y → post u) (h2 : ¬ sq_mb n f y → n = 512 → post u)
    (h3 : ¬ sq_mb n f y → n < 512 → ∀ u' f', sq_fx u' = sq_fx u → sq_fe u' = sq_fe u → sq_OL (sq_fo u') (n + 1) f' → (∀ z, sq_mb (n + 1) f' z ↔ sq_mb n f z ∨ z = y) → post u') : wpX_note post u w := by
  unfold wpX_note
  have e1 : u.2.2.2.2.2.1 = nI n := hO.1
  have hn := hO.2.1
  refine sq_has (b := false) (n := n) (f := f) hO hw hy (fun g => br_f (by decide) (h1 g)) (fun g => br_t rfl ?_)
  refine pk_eq n 512 (fun z => h2 g z) (fun z => ?_) e1 rfl
  rw [hw]
  have key := pk_loopD (fun k i a => wX_note_33 post (nI y) u.1 u.2.1 u.2.2.1 u.2.2.2.1 u.2.2.2.2.1 u.2.2.2.2.2.1 u.2.2.2.2.2.2.1 k (nI i) (nI i) u.2.2.2.2.2.2.2.1 u.2.2.2.2.2.2.2.2.1 u.2.2.2.2.2.2.2.2.2.1 u.2.2.2.2.2.2.2.2.2.2.1 u.2.2.2.2.2.2.2.2.2.2.2.1 u.2.2.2.2.2.2.2.2.2.2.2.2.1 u.2.2.2.2.2.2.2.2.2.2.2.2.2.1 u.2.2.2.2.2.2.2.2.2.2.2.2.2.2.1 u.2.2.2.2.2.2.2.2.2.2.2.2.2.2.2.1 u.2.2.2.2.2.2.2.2.2.2.2.2.2.2.2.2.1 u.2.2.2.2.2.2.2.2.2.2.2.2.2.2.2.2.2.1 u.2.2.2.2.2.2.2.2.2.2.2.2.2.2.2.2.2.2.1 u.2.2.2.2.2.2.2.2.2.2.2.2.2.2.2.2.2.2.2.1 u.2.2.2.2.2.2.2.2.2.2.2.2.2.2.2.2.2.2.2.2.1 a u.2.2.2.2.2.2.2.2.2.2.2.2.2.2.2.2.2.2.2.2.2.2) (fun i a => i ≤ n ∧ (∀ j, i ≤ j → j < n → y < f j) ∧ (∀ j, j < i → a j = nI (f j)) ∧ (∀ j, i < j → j ≤ n → a j = nI (f (j - 1)))) ?_ ?_ n u.2.2.2.2.2.2.2.2.2.2.2.2.2.2.2.2.2.2.2.2.2.1 ⟨Nat.le_refl _, fun j hj hj' => absurd hj (by omega), fun j hj => (hO.2.2.1 j hj).1, fun j hj hj' => absurd hj (by omega)⟩
  · have key2 : ∀ a b : Int32, a = nI n → b = nI n → wX_note_33 post (nI y) u.1 u.2.1 u.2.2.1 u.2.2.2.1 u.2.2.2.2.1 u.2.2.2.2.2.1 u.2.2.2.2.2.2.1 (n + 1) a b u.2.2.2.2.2.2.2.1 u.2.2.2.2.2.2.2.2.1 u.2.2.2.2.2.2.2.2.2.1 u.2.2.2.2.2.2.2.2.2.2.1 u.2.2.2.2.2.2.2.2.2.2.2.1 u.2.2.2.2.2.2.2.2.2.2.2.2.1 u.2.2.2.2.2.2.2.2.2.2.2.2.2.1 u.2.2.2.2.2.2.2.2.2.2.2.2.2.2.1 u.2.2.2.2.2.2.2.2.2.2.2.2.2.2.2.1 u.2.2.2.2.2.2.2.2.2.2.2.2.2.2.2.2.1 u.2.2.2.2.2.2.2.2.2.2.2.2.2.2.2.2.2.1 u.2.2.2.2.2.2.2.2.2.2.2.2.2.2.2.2.2.2.1 u.2.2.2.2.2.2.2.2.2.2.2.2.2.2.2.2.2.2.2.1 u.2.2.2.2.2.2.2.2.2.2.2.2.2.2.2.2.2.2.2.2.1 u.2.2.2.2.2.2.2.2.2.2.2.2.2.2.2.2.2.2.2.2.2.1 u.2.2.2.2.2.2.2.2.2.2.2.2.2.2.2.2.2.2.2.2.2.2 := by
      rintro _ _ rfl rfl
      exact key
    exact ⟨n + 1, key2 _ _ e1 e1⟩
  · rintro k a ⟨i1, i2, i3, i4⟩
    exact pk_le 0 0 (fun _ => sq_n78 (u := u) hO (by omega) i1 hy (fun j hj => absurd hj (by omega)) i2 i3 i4 (h3 g (by omega))) (fun y => absurd y (by omega))
  · rintro k i a ⟨i1, i2, i3, i4⟩ hw
    have e' : nI (i + 1) - 1 = nI i := nI_pred i
    have hb := hO.2.2.1 i (by omega)
    refine pk_le (i + 1) 0 (fun y => absurd y (by omega)) (fun _ => ⟨pk_in i 512 (by omega) e', ?_⟩)
    refine pk_le (f i) y (fun z1 => ?_) (fun z1 => ⟨pk_in i 512 (by omega) e', pk_in (i + 1) 512 (by omega), ?_⟩) (by rw [e', nI_clamp (by omega)]; exact i3 i (by omega)) rfl
    · refine sq_n78 (u := u) hO (by omega) i1 hy (fun j hj => ?_) i2 i3 i4 (h3 g (by omega))
      have hne : f i ≠ y := fun e => g ⟨i, by omega, e⟩
      by_cases ej : j = i
      · rw [ej]; omega
      · have := hO.2.2.2 j i (by omega) (by omega); omega
    · refine nm_r (e' := upd a (i + 1) (nI (f i))) (by rw [e', nI_clamp (by omega), nI_clamp (by omega), i3 i (by omega)]) (nm_r e' (nm_r (pk_m1 i) (hw _ ⟨by omega, fun j hj hj' => ?_, fun j hj => ?_, fun j hj hj' => ?_⟩)))
      · by_cases ej : j = i
        · rw [ej]; exact z1
        · exact i2 j (by omega) hj'
      · rw [pk_un (by omega)]; exact i3 j (by omega)
      · by_cases ej : j = i + 1
        · rw [ej, pk_us]; rfl
        · rw [pk_un ej]; exact i4 j (by omega) hj'
/-! the exploration -/
def sq_B (P : sq_P) (b : Bool) : Prop := ∀ m (g : Nat → Nat), (∀ i j, i < j → j < m → g i ≠ g j) → (∀ i, i < m → sq_Out P b (g i)) → m ≤ 512
def sq_X (P : sq_P) (b : Bool) (u0 : St1) (i : Nat) (u : St1) : Prop := sq_fx u = sq_fx u0 ∧ ∃ n f m g, sq_EL (sq_fe u) n f ∧ sq_LI P b n f ∧ sq_OL (sq_fo u) m g ∧ (∀ x, sq_mb m g x → sq_Out P b x) ∧ i ≤ n ∧ (sq_Bd P b → sq_in n f (0, 0)) ∧ (sq_Bd P b → ∀ j, j < i → ∀ s', sq_Stp P b (f j) s' → sq_in n f s') ∧ (sq_B P b → ∀ j, j < i → sq_Fin P (f j) → sq_mb m g (f j).2)
theorem sq_x70 {post : St1 → Prop} {u0 : St1} {P : sq_P} {b : Bool} (hV : sq_TV P) (hT : sq_Tr (sq_fx u0) P)
    (h : ∀ u' m g, sq_fx u' = sq_fx u0 → sq_OL (sq_fo u') m g → (∀ x, sq_mb m g x → sq_Out P b x) → (sq_Bd P b → sq_B P b → ∀ x, sq_Out P b x → sq_mb m g x) → post u') (u1 : St1) (h1 : sq_X P b u0 0 u1) :
    ∃ fu, wX_explore_70 post (sq_bI b) fu (nI 0) u1.1 u1.2.1 u1.2.2.1 u1.2.2.2.1 u1.2.2.2.2.1 u1.2.2.2.2.2.1 u1.2.2.2.2.2.2.1 u1.2.2.2.2.2.2.2.1 u1.2.2.2.2.2.2.2.2.1 u1.2.2.2.2.2.2.2.2.2.1 u1.2.2.2.2.2.2.2.2.2.2.1 u1.2.2.2.2.2.2.2.2.2.2.2.1 u1.2.2.2.2.2.2.2.2.2.2.2.2.1 u1.2.2.2.2.2.2.2.2.2.2.2.2.2.1 u1.2.2.2.2.2.2.2.2.2.2.2.2.2.2.1 u1.2.2.2.2.2.2.2.2.2.2.2.2.2.2.2.1 u1.2.2.2.2.2.2.2.2.2.2.2.2.2.2.2.2.1 u1.2.2.2.2.2.2.2.2.2.2.2.2.2.2.2.2.2.1 u1.2.2.2.2.2.2.2.2.2.2.2.2.2.2.2.2.2.2.1 u1.2.2.2.2.2.2.2.2.2.2.2.2.2.2.2.2.2.2.2.1 u1.2.2.2.2.2.2.2.2.2.2.2.2.2.2.2.2.2.2.2.2.1 u1.2.2.2.2.2.2.2.2.2.2.2.2.2.2.2.2.2.2.2.2.2.1 u1.2.2.2.2.2.2.2.2.2.2.2.2.2.2.2.2.2.2.2.2.2.2 := by
  refine loop_m (σ := Nat × St1) (fun k z => wX_explore_70 post (sq_bI b) k (nI z.1) z.2.1 z.2.2.1 z.2.2.2.1 z.2.2.2.2.1 z.2.2.2.2.2.1 z.2.2.2.2.2.2.1 z.2.2.2.2.2.2.2.1 z.2.2.2.2.2.2.2.2.1 z.2.2.2.2.2.2.2.2.2.1 z.2.2.2.2.2.2.2.2.2.2.1 z.2.2.2.2.2.2.2.2.2.2.2.1 z.2.2.2.2.2.2.2.2.2.2.2.2.1 z.2.2.2.2.2.2.2.2.2.2.2.2.2.1 z.2.2.2.2.2.2.2.2.2.2.2.2.2.2.1 z.2.2.2.2.2.2.2.2.2.2.2.2.2.2.2.1 z.2.2.2.2.2.2.2.2.2.2.2.2.2.2.2.2.1 z.2.2.2.2.2.2.2.2.2.2.2.2.2.2.2.2.2.1 z.2.2.2.2.2.2.2.2.2.2.2.2.2.2.2.2.2.2.1 z.2.2.2.2.2.2.2.2.2.2.2.2.2.2.2.2.2.2.2.1 z.2.2.2.2.2.2.2.2.2.2.2.2.2.2.2.2.2.2.2.2.1 z.2.2.2.2.2.2.2.2.2.2.2.2.2.2.2.2.2.2.2.2.2.1 z.2.2.2.2.2.2.2.2.2.2.2.2.2.2.2.2.2.2.2.2.2.2.1 z.2.2.2.2.2.2.2.2.2.2.2.2.2.2.2.2.2.2.2.2.2.2.2) (fun z => sq_X P b u0 z.1 z.2) (fun z => 4097 - z.1) ?_ (0, u1) h1
  rintro k ⟨i, u⟩ hX hw
  obtain ⟨x1, n, f, m, g, x2, x3, x4, x5, x6, x7, x8, x9⟩ := hX
  have x1' : sq_fx u = sq_fx u0 := x1
  have x2' : sq_EL (sq_fe u) n f := x2
  have x4' : sq_OL (sq_fo u) m g := x4
  have x6' : i ≤ n := x6
  have hn := x2'.2.1
  refine pk_le n i (fun z => ?_) (fun z => ?_) x2'.1 rfl
  · refine h u m g x1' x4' x5 (fun hB1 hB2 x hx => ?_)
    obtain ⟨s, hR, hF, e⟩ := hx
    have hin : sq_in n f s := hR (sq_in n f) (x7 hB1) (fun a c ha hs => by
      obtain ⟨j, hj, ej⟩ := ha
      exact x8 hB1 j (by show j < i; omega) c (by rw [ej]; exact hs))
    obtain ⟨j, hj, ej⟩ := hin
    have := x9 hB2 j (by show j < i; omega) (by rw [ej]; exact hF)
    rw [ej, e] at this
    exact this
  · refine pk_le 4096 i (fun z2 => absurd z2 (by omega)) (fun _ => ?_)
    have hT' : sq_Tr (sq_fx u) P := by rw [x1']; exact hT
    have hR := x3.2 i z
    refine sq_expand (b := b) (s := f i) hV hT' x2' x3 z rfl (fun u' n' f' r a1 a2 a3 a4 a5 a6 a7 => ?_)
    have hfi : f' i = f i := a5.2 i z
    have hin' : i < n' := Nat.lt_of_lt_of_le z a5.1
    have hO' : sq_OL (sq_fo u') m g := by rw [a2]; exact x4'
    have c8 : sq_Bd P b → ∀ j, j < i + 1 → ∀ s', sq_Stp P b (f' j) s' → sq_in n' f' s' := by
      intro hB j hj s' hs
      by_cases ej : j = i
      · rw [ej, hfi] at hs; exact a7 hB s' hs
      · have hj' : j < i := by omega
        rw [a5.2 j (by omega)] at hs
        exact sq_in_ex a5 (x8 hB j hj' s' hs)
    rcases a6 with ⟨er, hF⟩ | ⟨er, hF⟩
    · have hb := a3.2.2.1 i hin'
      have hOut : sq_Out P b (f i).2 := ⟨f i, hR, hF, rfl⟩
      have hsm := sq_R_sm hV hR
      have cont : ∀ u'' m' g', sq_fx u'' = sq_fx u' → sq_fe u'' = sq_fe u' → sq_OL (sq_fo u'') m' g' → (∀ x, sq_mb m' g' x → sq_Out P b x) → (∀ x, sq_mb m g x → sq_mb m' g' x) → (sq_B P b → sq_mb m' g' (f i).2) → sq_X P b u0 (i + 1) u'' := by
        intro u'' m' g' c1 c2 c3 c4 c5 c6
        refine ⟨c1.trans (a1.trans x1'), n', f', m', g', by rw [c2]; exact a3, a4, c3, c4, hin', fun hB => sq_in_ex a5 (x7 hB), c8, fun hB j hj hFj => ?_⟩
        by_cases ej : j = i
        · rw [ej, hfi]; exact c6 hB
        · have hj' : j < i := by omega
          rw [a5.2 j (by omega)] at hFj ⊢
          exact c5 _ (x9 hB j hj' hFj)
      refine br_t er ⟨pk_in i 4096 (by omega), ?_⟩
      refine sq_note (y := (f i).2) hO' (sq_clt (by omega) (by rw [← hfi]; exact hb.2.1)) hsm.2 (fun g1 => nm_r (nI_1 i) (hw (i + 1, u') (cont u' m g rfl rfl hO' x5 (fun x hx => hx) (fun _ => g1)) ?_)) (fun g1 g2 => nm_r (nI_1 i) (hw (i + 1, u') (cont u' m g rfl rfl hO' x5 (fun x hx => hx) (fun hB => ?_)) ?_)) (fun g1 g2 u'' g' c1 c2 c3 c4 => nm_r (nI_1 i) (hw (i + 1, u'') (cont u'' (m + 1) g' c1 c2 c3 (fun x hx => ?_) (fun x hx => (c4 x).mpr (Or.inl hx)) (fun _ => (c4 _).mpr (Or.inr rfl))) ?_))
      · show 4097 - (i + 1) < 4097 - i; omega
      · exfalso
        have := hB (m + 1) (fun j => if j = m then (f i).2 else g j) (fun p q hpq hq => by
          rw [if_neg (by omega)]
          by_cases eq : q = m
          · rw [if_pos eq]; exact fun e => g1 ⟨p, by omega, e⟩
          · rw [if_neg eq]
            have := x4'.2.2.2 p q hpq (by omega)
            omega) (fun p hp => by
          by_cases ep : p = m
          · rw [if_pos ep]; exact hOut
          · rw [if_neg ep]; exact x5 _ ⟨p, by omega, rfl⟩)
        omega
      · show 4097 - (i + 1) < 4097 - i; omega
      · rcases (c4 x).mp hx with g | g
        · exact x5 x g
        · rw [g]; exact hOut
      · show 4097 - (i + 1) < 4097 - i; omega
    · refine br_f (by rw [er]; decide) (nm_r (nI_1 i) (hw (i + 1, u') ⟨a1.trans x1', n', f', m, g, a3, a4, hO', x5, hin', fun hB => sq_in_ex a5 (x7 hB), c8, fun hB j hj hFj => ?_⟩ ?_))
      · by_cases ej : j = i
        · rw [ej, hfi] at hFj; exact absurd hFj hF
        · have hj' : j < i := by have : j < i + 1 := hj; omega
          rw [a5.2 j (by omega)] at hFj ⊢
          exact x9 hB j hj' hFj
      · show 4097 - (i + 1) < 4097 - i; omega
theorem sq_explore {post : St1 → Prop} {u : St1} {P : sq_P} {b : Bool} (hV : sq_TV P) (hT : sq_Tr (sq_fx u) P)
    (h : ∀ u' m g, sq_fx u' = sq_fx u → sq_OL (sq_fo u') m g → (∀ x, sq_mb m g x → sq_Out P b x) → (sq_Bd P b → sq_B P b → ∀ x, sq_Out P b x → sq_mb m g x) → post u') : wpX_explore post u (sq_bI b) := by
  refine pk_loop (fun k i a => wX_explore_2 post (sq_bI b) u.1 u.2.1 u.2.2.1 u.2.2.2.1 u.2.2.2.2.1 u.2.2.2.2.2.1 u.2.2.2.2.2.2.1 k (nI i) u.2.2.2.2.2.2.2.1 u.2.2.2.2.2.2.2.2.1 u.2.2.2.2.2.2.2.2.2.1 u.2.2.2.2.2.2.2.2.2.2.1 u.2.2.2.2.2.2.2.2.2.2.2.1 u.2.2.2.2.2.2.2.2.2.2.2.2.1 u.2.2.2.2.2.2.2.2.2.2.2.2.2.1 u.2.2.2.2.2.2.2.2.2.2.2.2.2.2.1 u.2.2.2.2.2.2.2.2.2.2.2.2.2.2.2.1 u.2.2.2.2.2.2.2.2.2.2.2.2.2.2.2.2.1 u.2.2.2.2.2.2.2.2.2.2.2.2.2.2.2.2.2.1 a u.2.2.2.2.2.2.2.2.2.2.2.2.2.2.2.2.2.2.2.1 u.2.2.2.2.2.2.2.2.2.2.2.2.2.2.2.2.2.2.2.2.1 u.2.2.2.2.2.2.2.2.2.2.2.2.2.2.2.2.2.2.2.2.2.1 u.2.2.2.2.2.2.2.2.2.2.2.2.2.2.2.2.2.2.2.2.2.2) (fun i a => ∀ j, j < i → a j = -1) 8192 0 u.2.2.2.2.2.2.2.2.2.2.2.2.2.2.2.2.2.2.1 (by omega) (fun j hj => absurd hj (by omega)) ?_ ?_
  · intro k a12 ha
    refine pk_le 8192 8192 (fun _ => ?_) (fun z => absurd z (by omega))
    refine pk_loop (σ := (Nat → Int32) × (Nat → Int32)) (fun k i z => wX_explore_34 post (sq_bI b) u.1 u.2.1 0 u.2.2.2.1 u.2.2.2.2.1 0 u.2.2.2.2.2.2.1 k (nI i) u.2.2.2.2.2.2.2.1 u.2.2.2.2.2.2.2.2.1 u.2.2.2.2.2.2.2.2.2.1 u.2.2.2.2.2.2.2.2.2.2.1 u.2.2.2.2.2.2.2.2.2.2.2.1 u.2.2.2.2.2.2.2.2.2.2.2.2.1 u.2.2.2.2.2.2.2.2.2.2.2.2.2.1 u.2.2.2.2.2.2.2.2.2.2.2.2.2.2.1 u.2.2.2.2.2.2.2.2.2.2.2.2.2.2.2.1 u.2.2.2.2.2.2.2.2.2.2.2.2.2.2.2.2.1 u.2.2.2.2.2.2.2.2.2.2.2.2.2.2.2.2.2.1 a12 z.1 z.2 u.2.2.2.2.2.2.2.2.2.2.2.2.2.2.2.2.2.2.2.2.2.1 u.2.2.2.2.2.2.2.2.2.2.2.2.2.2.2.2.2.2.2.2.2.2) (fun i z => ∀ j, j < i → z.1 j = nI 0 ∧ z.2 j = nI 0) 4 0 (u.2.2.2.2.2.2.2.2.2.2.2.2.2.2.2.2.2.2.2.1, u.2.2.2.2.2.2.2.2.2.2.2.2.2.2.2.2.2.2.2.2.1) (by omega) (fun j hj => absurd hj (by omega)) ?_ ?_
    · intro k z hz
      refine pk_le 4 4 (fun _ => ?_) (fun z => absurd z (by omega))
      refine sq_enter2 (u := (u.1, u.2.1, 0, 0, u.2.2.2.2.1, 0, u.2.2.2.2.2.2.1, u.2.2.2.2.2.2.2.1, u.2.2.2.2.2.2.2.2.1, u.2.2.2.2.2.2.2.2.2.1, u.2.2.2.2.2.2.2.2.2.2.1, u.2.2.2.2.2.2.2.2.2.2.2.1, u.2.2.2.2.2.2.2.2.2.2.2.2.1, u.2.2.2.2.2.2.2.2.2.2.2.2.2.1, u.2.2.2.2.2.2.2.2.2.2.2.2.2.2.1, u.2.2.2.2.2.2.2.2.2.2.2.2.2.2.2.1, u.2.2.2.2.2.2.2.2.2.2.2.2.2.2.2.2.1, u.2.2.2.2.2.2.2.2.2.2.2.2.2.2.2.2.2.1, a12, z.1, z.2, u.2.2.2.2.2.2.2.2.2.2.2.2.2.2.2.2.2.2.2.2.2.1, u.2.2.2.2.2.2.2.2.2.2.2.2.2.2.2.2.2.2.2.2.2.2)) (P := P) (b := b) (n := 0) (f := fun _ => (0, 0)) (s := (0, 0)) hV ?_ ⟨fun i j _ hj => absurd hj (by omega), fun i hi => absurd hi (by omega)⟩ ?_ (sq_R_0 P b) (fun u' n' f' a1 a2 a3 a4 a5 a6 => ?_)
      · exact ⟨rfl, by omega, fun i hi => absurd hi (by omega), fun j hj => Or.inl (ha j hj), fun _ _ i _ _ hi => absurd hi (by omega), fun i hi => absurd hi (by omega)⟩
      · refine ⟨fun t ht => ?_, rfl⟩
        rw [sq_A0, sq_D0]
        exact hz t ht
      · have a1' : sq_fx u' = sq_fx u := a1
        refine sq_x70 (u0 := u) hV hT h u' ⟨a1', n', f', 0, fun _ => 0, a3, a4, ?_, fun x hx => ?_, Nat.zero_le _, a6, fun _ j hj => absurd hj (by omega), fun _ j hj => absurd hj (by omega)⟩
        · rw [a2]
          exact ⟨rfl, by omega, fun i hi => absurd hi (by omega), fun i j _ hj => absurd hj (by omega)⟩
        · obtain ⟨i, hi, _⟩ := hx
          exact absurd hi (by omega)
    · intro k i z hi hz hw
      refine pk_le 4 i (fun z => absurd z (by omega)) (fun _ => ⟨pk_in i 4 hi, ?_⟩)
      intro a13 e13
      refine ⟨pk_in i 4 hi, ?_⟩
      intro a14 e14
      refine nm_r (nI_1 i) (hw (a13, a14) (fun j hj => ?_))
      rw [nI_clamp (by omega)] at e13 e14
      show a13 j = nI 0 ∧ a14 j = nI 0
      rw [e13, e14]
      by_cases e : j = i
      · rw [e, pk_us, pk_us]; exact ⟨rfl, rfl⟩
      · rw [pk_un e, pk_un e]; exact hz j (by omega)
  · intro k i a hi ha hw
    refine pk_le 8192 i (fun z => absurd z (by omega)) (fun _ => ⟨pk_in i 8192 hi, nm_e (nm_r (nI_1 i) (hw _ (fun j hj => ?_)))⟩)
    rw [nI_clamp (by omega)]
    by_cases e : j = i
    · rw [e, pk_us]
    · rw [pk_un e]; exact ha j (by omega)
end
section
/-! the program as written, and the program under trial made of it -/
abbrev sq_Q : Type := (Nat → Nat) × (Nat → Nat → Nat) × (Nat → Nat → Nat) × (Nat → Nat → Nat)
abbrev sq_z (Q : sq_Q) : Nat → Nat := Q.1
abbrev sq_k (Q : sq_Q) : Nat → Nat → Nat := Q.2.1
abbrev sq_v (Q : sq_Q) : Nat → Nat → Nat := Q.2.2.1
abbrev sq_w (Q : sq_Q) : Nat → Nat → Nat := Q.2.2.2
def sq_wr (x : sq_FX) : Int32 × (Nat → Int32) × (Nat → Int32) × (Nat → Int32) × (Nat → Int32) := (x.1, x.2.2.2.2.1, x.2.2.2.2.2.1, x.2.2.2.2.2.2.1, x.2.2.2.2.2.2.2.1)
def sq_ky (x : sq_FX) : Int32 × Int32 × (Nat → Int32) := (x.2.2.1, x.2.2.2.1, x.2.2.2.2.2.2.2.2.2.2.2.2.2)
def sq_Pr (y : Int32 × (Nat → Int32) × (Nat → Int32) × (Nat → Int32) × (Nat → Int32)) (Q : sq_Q) : Prop :=
  y.1 = nI (sq_z Q 0 + sq_z Q 1 + sq_z Q 2 + sq_z Q 3) ∧ sq_z Q 0 + sq_z Q 1 + sq_z Q 2 + sq_z Q 3 ≤ 6 ∧
  ∀ t, t < 4 → y.2.1 t = nI (sq_z Q t) ∧ ∀ i, i < sq_z Q t → y.2.2.1 (t * 6 + i) = nI (sq_k Q t i) ∧ y.2.2.2.1 (t * 6 + i) = nI (sq_v Q t i) ∧ y.2.2.2.2 (t * 6 + i) = nI (sq_w Q t i) ∧ sq_k Q t i < 3 ∧ sq_v Q t i < 3 ∧ sq_w Q t i < 4
theorem sq_z6 {y : Int32 × (Nat → Int32) × (Nat → Int32) × (Nat → Int32) × (Nat → Int32)} {Q : sq_Q} (h : sq_Pr y Q) {t : Nat} (ht : t < 4) : sq_z Q t ≤ 6 := by
  have := h.2.1
  rcases sq_t4 ht with e | e | e | e <;> rw [e] <;> omega
def sq_lc (Q : sq_Q) (t i : Nat) : Nat := sq_cnt (fun j => if sq_k Q t j = 1 then 0 else 1) i
def sq_lb (Q : sq_Q) : Nat → Nat
  | 0 => 0
  | t + 1 => sq_lb Q t + sq_lc Q t (sq_z Q t)
def sq_sz (Q : sq_Q) : Nat → Nat
  | 0 => 0
  | t + 1 => sq_sz Q t + sq_z Q t
def sq_pl (Q : sq_Q) : sq_P := (sq_z Q, sq_k Q, sq_v Q, sq_w Q, fun t i => sq_lb Q t + sq_lc Q t i)
theorem sq_lc_s {Q : sq_Q} {t i : Nat} (h : sq_k Q t i = 1) : sq_lc Q t (i + 1) = sq_lc Q t i + 1 := sq_cnt_s (k := fun j => if sq_k Q t j = 1 then 0 else 1) (if_pos h)
theorem sq_lc_n {Q : sq_Q} {t i : Nat} (h : ¬ sq_k Q t i = 1) : sq_lc Q t (i + 1) = sq_lc Q t i := sq_cnt_n (k := fun j => if sq_k Q t j = 1 then 0 else 1) (by rw [if_neg h]; decide)
theorem sq_lb_sz (Q : sq_Q) : ∀ t, sq_lb Q t ≤ sq_sz Q t
  | 0 => Nat.le_refl _
  | t + 1 => by
    have h1 := sq_lb_sz Q t
    have h2 : sq_lc Q t (sq_z Q t) ≤ sq_z Q t := sq_cnt_le _ _
    show sq_lb Q t + sq_lc Q t (sq_z Q t) ≤ sq_sz Q t + sq_z Q t
    omega
theorem sq_sz4 (Q : sq_Q) : sq_sz Q 4 = sq_z Q 0 + sq_z Q 1 + sq_z Q 2 + sq_z Q 3 := by
  show 0 + sq_z Q 0 + sq_z Q 1 + sq_z Q 2 + sq_z Q 3 = _
  omega
theorem sq_sz_mono (Q : sq_Q) {t r : Nat} (h : t ≤ r) : sq_sz Q t ≤ sq_sz Q r := by
  induction r with
  | zero => rw [show t = 0 by omega]; exact Nat.le_refl _
  | succ r ih =>
    by_cases e : t = r + 1
    · rw [e]; exact Nat.le_refl _
    · exact Nat.le_trans (ih (by omega)) (Nat.le_add_right _ _)
theorem sq_lb_mono (Q : sq_Q) {t r : Nat} (h : t ≤ r) : sq_lb Q t ≤ sq_lb Q r := by
  induction r with
  | zero => rw [show t = 0 by omega]; exact Nat.le_refl _
  | succ r ih =>
    by_cases e : t = r + 1
    · rw [e]; exact Nat.le_refl _
    · exact Nat.le_trans (ih (by omega)) (Nat.le_add_right _ _)
theorem sq_lb_lt {Q : sq_Q} {t i r j : Nat} (hi : i < sq_z Q t) (h1 : sq_k Q t i = 1) (h : t < r) : sq_lb Q t + sq_lc Q t i < sq_lb Q r + sq_lc Q r j := by
  have a1 := sq_lb_mono Q (show t + 1 ≤ r from h)
  have a2 : sq_lc Q t (i + 1) ≤ sq_lc Q t (sq_z Q t) := sq_cnt_mono _ hi
  rw [sq_lc_s h1] at a2
  have a3 : sq_lb Q (t + 1) = sq_lb Q t + sq_lc Q t (sq_z Q t) := rfl
  omega
theorem sq_pl_PL {y : Int32 × (Nat → Int32) × (Nat → Int32) × (Nat → Int32) × (Nat → Int32)} {Q : sq_Q} (h : sq_Pr y Q) : sq_PL (sq_pl Q) := by
  refine ⟨fun t ht => ⟨?_, ?_, fun i hi => ?_⟩, h.2.1, fun t i r j ht hr hi hj k1 k2 e => ?_⟩
  · have := sq_z6 h ht
    show sq_z Q t ≤ 12
    omega
  · have := sq_z6 h ht
    have h2 : sq_cnt (sq_k Q t) (sq_z Q t) ≤ sq_z Q t := sq_cnt_le _ _
    show sq_cnt (sq_k Q t) (sq_z Q t) ≤ 6
    omega
  · have hi' : i < sq_z Q t := hi
    have hb := (h.2.2 t ht).2 i hi'
    refine ⟨hb.2.2.2.2.1, hb.2.2.2.2.2, ?_, hb.2.2.2.1⟩
    have a1 := sq_lb_sz Q t
    have a2 : sq_lc Q t i ≤ i := sq_cnt_le _ _
    have a3 := sq_sz_mono Q (show t + 1 ≤ 4 by omega)
    have a4 : sq_sz Q (t + 1) = sq_sz Q t + sq_z Q t := rfl
    have a5 := h.2.1
    rw [sq_sz4] at a3
    show sq_lb Q t + sq_lc Q t i < 6
    omega
  · have k1' : sq_k Q t i = 1 := k1
    have k2' : sq_k Q r j = 1 := k2
    have e' : sq_lb Q t + sq_lc Q t i = sq_lb Q r + sq_lc Q r j := e
    rcases Nat.lt_trichotomy t r with g | g | g
    · have := sq_lb_lt (j := j) hi k1' g; omega
    · refine ⟨g, ?_⟩
      rw [g] at e' k1'
      exact sq_cnt_inj (k := fun m => if sq_k Q r m = 1 then 0 else 1) (if_pos k1') (if_pos k2') (show sq_lc Q r i = sq_lc Q r j by omega)
    · have := sq_lb_lt (j := i) hj k2' g; omega
/-! one instruction more -/
def sq_em (x : sq_FX) (t l k v w c : Nat) : sq_FX := (x.1, nI (if k = 1 then c + 1 else c), x.2.2.1, x.2.2.2.1, x.2.2.2.2.1, x.2.2.2.2.2.1, x.2.2.2.2.2.2.1, x.2.2.2.2.2.2.2.1, upd x.2.2.2.2.2.2.2.2.1 t (nI (l + 1)), upd x.2.2.2.2.2.2.2.2.2.1 (t * 12 + l) (nI k), upd x.2.2.2.2.2.2.2.2.2.2.1 (t * 12 + l) (nI v), upd x.2.2.2.2.2.2.2.2.2.2.2.1 (t * 12 + l) (nI w), (if k = 1 then upd x.2.2.2.2.2.2.2.2.2.2.2.2.1 (t * 12 + l) (nI c) else x.2.2.2.2.2.2.2.2.2.2.2.2.1), x.2.2.2.2.2.2.2.2.2.2.2.2.2)
theorem sq_emit {post : St1 → Prop} {u : St1} {t l k v w c : Nat} {y1 y2 y3 : Int32} (ht : t < 4) (h5 : u.2.2.2.2.2.2.2.2.2.2.2.1 t = nI l) (hl : l < 12) (hc : u.2.1 = nI c) (hk : k < 3) (e1 : y1 = nI k) (e2 : y2 = nI v) (e3 : y3 = nI w) (h : ∀ u', sq_fx u' = sq_em (sq_fx u) t l k v w c → post u') : wpX_emit post u (nI t) y1 y2 y3 := by
  rw [e1, e2, e3]
  have hb : t * 12 + l < 48 := by omega
  refine ⟨pk_in t 4 ht, nm_r (e' := nI (t * 12 + l)) (by rw [sq_clt (by omega) h5, sq_12x]) ⟨pk_in _ 48 hb, ?_⟩⟩
  refine nm_r (e' := upd u.2.2.2.2.2.2.2.2.2.2.2.2.1 (t * 12 + l) (nI k)) (by rw [nI_clamp (by omega)]) ⟨pk_in _ 48 hb, ?_⟩
  refine nm_r (e' := upd u.2.2.2.2.2.2.2.2.2.2.2.2.2.1 (t * 12 + l) (nI v)) (by rw [nI_clamp (by omega)]) ⟨pk_in _ 48 hb, ?_⟩
  refine nm_r (e' := upd u.2.2.2.2.2.2.2.2.2.2.2.2.2.2.1 (t * 12 + l) (nI w)) (by rw [nI_clamp (by omega)]) ?_
  refine pk_eq k 1 (fun z => ⟨pk_in _ 48 hb, ?_⟩) (fun z => ?_)
  · refine nm_r (e' := upd u.2.2.2.2.2.2.2.2.2.2.2.2.2.2.2.1 (t * 12 + l) (nI c)) (by rw [nI_clamp (by omega), hc]) (nm_r (e' := nI (c + 1)) (by rw [hc, nI_1]) ⟨pk_in t 4 ht, pk_in t 4 ht, nm_r (e' := upd u.2.2.2.2.2.2.2.2.2.2.2.1 t (nI (l + 1))) (by rw [nI_clamp (by omega), h5, nI_1]) (h _ ?_)⟩)
    unfold sq_em
    rw [if_pos z, if_pos z]
    rfl
  · refine ⟨pk_in t 4 ht, pk_in t 4 ht, nm_r (e' := upd u.2.2.2.2.2.2.2.2.2.2.2.1 t (nI (l + 1))) (by rw [nI_clamp (by omega), h5, nI_1]) (h _ ?_)⟩
    unfold sq_em
    rw [if_neg z, if_neg z, ← hc]
    rfl
def sq_T1 (x : sq_FX) (P : sq_P) (r l : Nat) : Prop := x.2.2.2.2.2.2.2.2.1 r = nI l ∧ ∀ i, i < l → x.2.2.2.2.2.2.2.2.2.1 (r * 12 + i) = nI (sq_K P r i) ∧ x.2.2.2.2.2.2.2.2.2.2.1 (r * 12 + i) = nI (sq_V P r i) ∧ x.2.2.2.2.2.2.2.2.2.2.2.1 (r * 12 + i) = nI (sq_W P r i) ∧ (sq_K P r i = 1 → x.2.2.2.2.2.2.2.2.2.2.2.2.1 (r * 12 + i) = nI (sq_N P r i))
theorem sq_em9o {x : sq_FX} {t l k v w c q : Nat} (h : q ≠ t * 12 + l) : (if k = 1 then upd x.2.2.2.2.2.2.2.2.2.2.2.2.1 (t * 12 + l) (nI c) else x.2.2.2.2.2.2.2.2.2.2.2.2.1) q = x.2.2.2.2.2.2.2.2.2.2.2.2.1 q := by
  by_cases e : k = 1
  · rw [if_pos e]; exact pk_un h
  · rw [if_neg e]
theorem sq_T1_k {x : sq_FX} {P : sq_P} {t l k v w c r m : Nat} (hx : sq_T1 x P r m) (hm : m ≤ 12) (hl : l < 12) (h : ∀ i, i < m → r * 12 + i ≠ t * 12 + l) (h5 : r ≠ t) : sq_T1 (sq_em x t l k v w c) P r m := by
  refine ⟨(pk_un h5).trans hx.1, fun i hi => ?_⟩
  have hb := hx.2 i hi
  have hq := h i hi
  exact ⟨(pk_un hq).trans hb.1, (pk_un hq).trans hb.2.1, (pk_un hq).trans hb.2.2.1, fun z => (sq_em9o (v := v) (w := w) hq).trans (hb.2.2.2 z)⟩
theorem sq_T1_n {x : sq_FX} {P : sq_P} {t l k v w c : Nat} (hx : sq_T1 x P t l) (hk : sq_K P t l = k) (hv : sq_V P t l = v) (hw : sq_W P t l = w) (hc : k = 1 → sq_N P t l = c) : sq_T1 (sq_em x t l k v w c) P t (l + 1) := by
  refine ⟨pk_us, fun i hi => ?_⟩
  by_cases e : i = l
  · rw [e, hk, hv, hw]
    refine ⟨pk_us, pk_us, pk_us, fun z => ?_⟩
    rw [hc z]
    show (if k = 1 then upd x.2.2.2.2.2.2.2.2.2.2.2.2.1 (t * 12 + l) (nI c) else x.2.2.2.2.2.2.2.2.2.2.2.2.1) (t * 12 + l) = _
    rw [if_pos z]
    exact pk_us
  · have hb := hx.2 i (by omega)
    have hq : t * 12 + i ≠ t * 12 + l := by omega
    exact ⟨(pk_un hq).trans hb.1, (pk_un hq).trans hb.2.1, (pk_un hq).trans hb.2.2.1, fun z => (sq_em9o (v := v) (w := w) hq).trans (hb.2.2.2 z)⟩
def sq_kk (x : sq_FX) (r i : Nat) : Nat := (x.2.2.2.2.2.2.2.2.2.1 (r * 12 + i)).toNatClampNeg
def sq_sf (x : sq_FX) (r l s c : Nat) : Prop := x.2.2.2.2.2.2.2.2.1 r = nI l ∧ sq_cnt (sq_kk x r) l ≤ s ∧ ∀ i, i < l → (∃ k, k < 3 ∧ x.2.2.2.2.2.2.2.2.2.1 (r * 12 + i) = nI k ∧ (k = 1 → ∃ d, d < c ∧ x.2.2.2.2.2.2.2.2.2.2.2.2.1 (r * 12 + i) = nI d)) ∧ (∃ v, v < 3 ∧ x.2.2.2.2.2.2.2.2.2.2.1 (r * 12 + i) = nI v) ∧ (∃ w, w < 4 ∧ x.2.2.2.2.2.2.2.2.2.2.2.1 (r * 12 + i) = nI w)
theorem sq_sf_k {x : sq_FX} {t l k v w c r m s : Nat} (hx : sq_sf x r m s c) (hm : m ≤ 12) (hl : l < 12) (h : r ≠ t) : sq_sf (sq_em x t l k v w c) r m s (if k = 1 then c + 1 else c) := by
  have hq : ∀ i, i < m → r * 12 + i ≠ t * 12 + l := fun i hi => by omega
  refine ⟨(pk_un h).trans hx.1, ?_, fun i hi => ?_⟩
  · rw [sq_cnt_congr (k' := sq_kk x r) (fun i hi => by
      show (upd x.2.2.2.2.2.2.2.2.2.1 (t * 12 + l) (nI k) (r * 12 + i)).toNatClampNeg = (x.2.2.2.2.2.2.2.2.2.1 (r * 12 + i)).toNatClampNeg
      rw [pk_un (hq i hi)])]
    exact hx.2.1
  · obtain ⟨⟨k', h1, h2, h3⟩, ⟨v', h4, h5⟩, ⟨w', h6, h7⟩⟩ := hx.2.2 i hi
    refine ⟨⟨k', h1, (pk_un (hq i hi)).trans h2, fun z => ?_⟩, ⟨v', h4, (pk_un (hq i hi)).trans h5⟩, ⟨w', h6, (pk_un (hq i hi)).trans h7⟩⟩
    obtain ⟨d, h8, h9⟩ := h3 z
    refine ⟨d, ?_, (sq_em9o (v := v) (w := w) (hq i hi)).trans h9⟩
    by_cases e : k = 1
    · rw [if_pos e]; omega
    · rw [if_neg e]; omega
theorem sq_sf_n {x : sq_FX} {t l k v w c s s' : Nat} (hx : sq_sf x t l s c) (hk : k < 3) (hv : v < 3) (hw : w < 4) (hs : s + (if k = 0 then 1 else 0) ≤ s') : sq_sf (sq_em x t l k v w c) t (l + 1) s' (if k = 1 then c + 1 else c) := by
  have hq : ∀ i, i < l → t * 12 + i ≠ t * 12 + l := fun i hi => by omega
  refine ⟨pk_us, ?_, fun i hi => ?_⟩
  · have e1 : sq_cnt (sq_kk (sq_em x t l k v w c) t) l = sq_cnt (sq_kk x t) l := sq_cnt_congr (fun i hi => by
      show (upd x.2.2.2.2.2.2.2.2.2.1 (t * 12 + l) (nI k) (t * 12 + i)).toNatClampNeg = (x.2.2.2.2.2.2.2.2.2.1 (t * 12 + i)).toNatClampNeg
      rw [pk_un (hq i hi)])
    have e2 : sq_kk (sq_em x t l k v w c) t l = k := by
      show (upd x.2.2.2.2.2.2.2.2.2.1 (t * 12 + l) (nI k) (t * 12 + l)).toNatClampNeg = k
      rw [pk_us, nI_clamp (by omega)]
    have h1 := hx.2.1
    show sq_cnt (sq_kk (sq_em x t l k v w c) t) l + (if sq_kk (sq_em x t l k v w c) t l = 0 then 1 else 0) ≤ s'
    rw [e1, e2]
    omega
  · by_cases e : i = l
    · rw [e]
      refine ⟨⟨k, hk, pk_us, fun z => ⟨c, by rw [if_pos z]; omega, ?_⟩⟩, ⟨v, hv, pk_us⟩, ⟨w, hw, pk_us⟩⟩
      show (if k = 1 then upd x.2.2.2.2.2.2.2.2.2.2.2.2.1 (t * 12 + l) (nI c) else x.2.2.2.2.2.2.2.2.2.2.2.2.1) (t * 12 + l) = _
      rw [if_pos z]
      exact pk_us
    · have hi' : i < l := by omega
      obtain ⟨⟨k', h1, h2, h3⟩, ⟨v', h4, h5⟩, ⟨w', h6, h7⟩⟩ := hx.2.2 i hi'
      refine ⟨⟨k', h1, (pk_un (hq i hi')).trans h2, fun z => ?_⟩, ⟨v', h4, (pk_un (hq i hi')).trans h5⟩, ⟨w', h6, (pk_un (hq i hi')).trans h7⟩⟩
      obtain ⟨d, h8, h9⟩ := h3 z
      refine ⟨d, ?_, (sq_em9o (v := v) (w := w) (hq i hi')).trans h9⟩
      by_cases e : k = 1
      · rw [if_pos e]; omega
      · rw [if_neg e]; omega
/-- the program that stands in the arrays -/
def sq_ar (x : sq_FX) : sq_P := (fun t => (x.2.2.2.2.2.2.2.2.1 t).toNatClampNeg, sq_kk x, fun t i => (x.2.2.2.2.2.2.2.2.2.2.1 (t * 12 + i)).toNatClampNeg, fun t i => (x.2.2.2.2.2.2.2.2.2.2.2.1 (t * 12 + i)).toNatClampNeg, fun t i => if sq_kk x t i = 1 then (x.2.2.2.2.2.2.2.2.2.2.2.2.1 (t * 12 + i)).toNatClampNeg else 0)
theorem sq_ar_ok {x : sq_FX} {z : Nat → Nat} {c : Nat} (hz : ∀ t, t < 4 → z t ≤ 6) (hc : c ≤ 6) (h : ∀ r, r < 4 → ∃ m, m ≤ 2 * z r ∧ sq_sf x r m (z r) c) : sq_TV (sq_ar x) ∧ sq_Tr x (sq_ar x) := by
  refine ⟨fun t ht => ?_, fun t ht => ?_⟩
  · obtain ⟨m, hm, h5, h6, h7⟩ := h t ht
    have hz' := hz t ht
    have e : sq_n (sq_ar x) t = m := by
      show (x.2.2.2.2.2.2.2.2.1 t).toNatClampNeg = m
      rw [h5, nI_clamp (by omega)]
    rw [e]
    refine ⟨by omega, ?_, fun i hi => ?_⟩
    · show sq_cnt (sq_kk x t) m ≤ 6
      omega
    · obtain ⟨⟨k', h1, h2, h3⟩, ⟨v', h4, h5⟩, ⟨w', h6, h7⟩⟩ := h7 i hi
      have ek : sq_kk x t i = k' := by
        show (x.2.2.2.2.2.2.2.2.2.1 (t * 12 + i)).toNatClampNeg = k'
        rw [h2, nI_clamp (by omega)]
      refine ⟨?_, ?_, ?_, ?_⟩
      · show (x.2.2.2.2.2.2.2.2.2.2.1 (t * 12 + i)).toNatClampNeg < 3
        rw [h5, nI_clamp (by omega)]; exact h4
      · show (x.2.2.2.2.2.2.2.2.2.2.2.1 (t * 12 + i)).toNatClampNeg < 4
        rw [h7, nI_clamp (by omega)]; exact h6
      · show (if sq_kk x t i = 1 then (x.2.2.2.2.2.2.2.2.2.2.2.2.1 (t * 12 + i)).toNatClampNeg else 0) < 6
        rw [ek]
        by_cases g : k' = 1
        · rw [if_pos g]
          obtain ⟨d, h8, h9⟩ := h3 g
          rw [h9, nI_clamp (by omega)]
          omega
        · rw [if_neg g]; omega
      · show sq_kk x t i < 3
        rw [ek]; exact h1
  · obtain ⟨m, hm, h5, h6, h7⟩ := h t ht
    have hz' := hz t ht
    have e : sq_n (sq_ar x) t = m := by
      show (x.2.2.2.2.2.2.2.2.1 t).toNatClampNeg = m
      rw [h5, nI_clamp (by omega)]
    rw [e]
    refine ⟨h5, fun i hi => ?_⟩
    obtain ⟨⟨k', h1, h2, h3⟩, ⟨v', h4, h5⟩, ⟨w', h6, h7⟩⟩ := h7 i hi
    have ek : sq_kk x t i = k' := by
      show (x.2.2.2.2.2.2.2.2.2.1 (t * 12 + i)).toNatClampNeg = k'
      rw [h2, nI_clamp (by omega)]
    refine ⟨?_, ?_, ?_, fun g => ?_⟩
    · show _ = nI (sq_kk x t i)
      rw [ek]; exact h2
    · show _ = nI (x.2.2.2.2.2.2.2.2.2.2.1 (t * 12 + i)).toNatClampNeg
      rw [h5, nI_clamp (by omega)]
    · show _ = nI (x.2.2.2.2.2.2.2.2.2.2.2.1 (t * 12 + i)).toNatClampNeg
      rw [h7, nI_clamp (by omega)]
    · have g' : sq_kk x t i = 1 := g
      show _ = nI (if sq_kk x t i = 1 then (x.2.2.2.2.2.2.2.2.2.2.2.2.1 (t * 12 + i)).toNatClampNeg else 0)
      rw [if_pos g']
      rw [ek] at g'
      obtain ⟨d, h8, h9⟩ := h3 g'
      rw [h9, nI_clamp (by omega)]
end
section
/-! prepare -/
def sq_Ip (Q : sq_Q) (g0 : Int32) (x0 : sq_FX) (t i b : Nat) (u : St1) : Prop := sq_wr (sq_fx u) = sq_wr x0 ∧ sq_ky (sq_fx u) = sq_ky x0 ∧ ∃ c l, u.2.1 = nI c ∧ l ≤ b ∧ c ≤ sq_sz Q t + i ∧ sq_sf (sq_fx u) t l i c ∧ (∀ r, r < t → ∃ m, m ≤ 2 * sq_z Q r ∧ sq_sf (sq_fx u) r m (sq_z Q r) c) ∧ (g0 = 0 → l = i ∧ c = sq_lb Q t + sq_lc Q t i ∧ sq_T1 (sq_fx u) (sq_pl Q) t i ∧ ∀ r, r < t → sq_T1 (sq_fx u) (sq_pl Q) r (sq_z Q r))
def sq_I9 (Q : sq_Q) (g0 : Int32) (x0 : sq_FX) (t : Nat) (u : St1) : Prop := sq_wr (sq_fx u) = sq_wr x0 ∧ sq_ky (sq_fx u) = sq_ky x0 ∧ ∃ c, u.2.1 = nI c ∧ c ≤ sq_sz Q t ∧ (∀ r, r < t → ∃ m, m ≤ 2 * sq_z Q r ∧ sq_sf (sq_fx u) r m (sq_z Q r) c) ∧ (g0 = 0 → c = sq_lb Q t ∧ ∀ r, r < t → sq_T1 (sq_fx u) (sq_pl Q) r (sq_z Q r))
theorem sq_pe {post : St1 → Prop} {Q : sq_Q} {g0 : Int32} {x0 : sq_FX} {t i b : Nat} {u : St1} {y1 y2 y3 : Int32} (hP : sq_Pr (sq_wr x0) Q) (h : sq_Ip Q g0 x0 t i b u) (ht : t < 4) (hi : i < sq_z Q t) (hb : b < 12) (e1 : y1 = nI (sq_k Q t i)) (e2 : y2 = nI (sq_v Q t i)) (e3 : y3 = nI (sq_w Q t i)) (hp : ∀ u', sq_Ip Q g0 x0 t (i + 1) (b + 1) u' → post u') : wpX_emit post u (nI t) y1 y2 y3 := by
  obtain ⟨p1, p2, c, l, p3, p4, p5, p6, p7, p8⟩ := h
  have hq := (hP.2.2 t ht).2 i hi
  refine sq_emit ht p6.1 (by omega) p3 hq.2.2.2.1 e1 e2 e3 (fun u' hu => hp u' ⟨?_, ?_, (if sq_k Q t i = 1 then c + 1 else c), l + 1, ?_, by omega, ?_, ?_, fun r hr => ?_, fun g => ?_⟩)
  · rw [hu]; exact p1
  · rw [hu]; exact p2
  · exact congrArg (fun z => z.2.1) hu
  · by_cases e : sq_k Q t i = 1
    · rw [if_pos e]; omega
    · rw [if_neg e]; omega
  · rw [hu]
    refine sq_sf_n p6 hq.2.2.2.1 hq.2.2.2.2.1 hq.2.2.2.2.2 ?_
    by_cases e : sq_k Q t i = 0
    · rw [if_pos e]; omega
    · rw [if_neg e]; omega
  · obtain ⟨m, h1, h2⟩ := p7 r hr
    have := sq_z6 hP (show r < 4 by omega)
    rw [hu]
    exact ⟨m, h1, sq_sf_k h2 (by omega) (by omega) (by omega)⟩
  · obtain ⟨g1, g2, g3, g4⟩ := p8 g
    rw [hu]
    refine ⟨by omega, ?_, ?_, fun r hr => ?_⟩
    · by_cases e : sq_k Q t i = 1
      · rw [if_pos e, sq_lc_s e]; omega
      · rw [if_neg e, sq_lc_n e]; exact g2
    · rw [g1]
      exact sq_T1_n g3 rfl rfl rfl (fun _ => g2.symm)
    · have := sq_z6 hP (show r < 4 by omega)
      exact sq_T1_k (g4 r hr) (by omega) (by omega) (fun j hj => by omega) (by omega)
theorem sq_pf {post : St1 → Prop} {Q : sq_Q} {g0 : Int32} {x0 : sq_FX} {t i b : Nat} {u : St1} (hP : sq_Pr (sq_wr x0) Q) (h : sq_Ip Q g0 x0 t i b u) (ht : t < 4) (hb : b < 12) (hg : ¬ g0 = 0) (hp : ∀ u', sq_Ip Q g0 x0 t i (b + 1) u' → post u') : wpX_emit post u (nI t) 2 0 0 := by
  obtain ⟨p1, p2, c, l, p3, p4, p5, p6, p7, p8⟩ := h
  refine sq_emit (k := 2) (v := 0) (w := 0) ht p6.1 (by omega) p3 (by omega) rfl rfl rfl (fun u' hu => hp u' ⟨?_, ?_, c, l + 1, ?_, by omega, p5, ?_, fun r hr => ?_, fun g => absurd g hg⟩)
  · rw [hu]; exact p1
  · rw [hu]; exact p2
  · exact congrArg (fun z => z.2.1) hu
  · rw [hu]
    exact sq_sf_n p6 (by omega) (by omega) (by omega) (Nat.le_refl _)
  · obtain ⟨m, h1, h2⟩ := p7 r hr
    have := sq_z6 hP (show r < 4 by omega)
    rw [hu]
    exact ⟨m, h1, sq_sf_k (k := 2) (v := 0) (w := 0) h2 (by omega) (by omega) (by omega)⟩
theorem sq_Ip_up {Q : sq_Q} {g0 : Int32} {x0 : sq_FX} {t i b b' : Nat} {u : St1} (h : sq_Ip Q g0 x0 t i b u) (hb : b ≤ b') : sq_Ip Q g0 x0 t i b' u := by
  obtain ⟨p1, p2, c, l, p3, p4, p⟩ := h
  exact ⟨p1, p2, c, l, p3, by omega, p⟩
theorem sq_sh0 (y : Int32) : ((0 : Int32) >>> (y &&& 31)) &&& 1 ≠ 1 := by
  obtain ⟨j, hj, e⟩ := pk_andE y (m := 31) 5 (by decide)
  rw [e]
  have : ∀ j, j < 2 ^ 5 → ((0 : Int32) >>> nI j) &&& 1 ≠ 1 := by decide +kernel
  exact this j hj
theorem sq_prepare {post : St1 → Prop} {Q : sq_Q} {g0 : Int32} {u : St1} (hP : sq_Pr (sq_wr (sq_fx u)) Q) (h : ∀ u', sq_wr (sq_fx u') = sq_wr (sq_fx u) → sq_ky (sq_fx u') = sq_ky (sq_fx u) → (∃ P, sq_TV P ∧ sq_Tr (sq_fx u') P) → (g0 = 0 → sq_Tr (sq_fx u') (sq_pl Q) ∧ u'.2.1 = nI (sq_lb Q 4)) → post u') : wpX_prepare post u g0 := by
  refine pk_loop (σ := Int32 × St1) (fun k t z => wX_prepare_9 post g0 k z.1 (nI t) z.2.1 z.2.2.1 z.2.2.2.1 z.2.2.2.2.1 z.2.2.2.2.2.1 z.2.2.2.2.2.2.1 z.2.2.2.2.2.2.2.1 z.2.2.2.2.2.2.2.2.1 z.2.2.2.2.2.2.2.2.2.1 z.2.2.2.2.2.2.2.2.2.2.1 z.2.2.2.2.2.2.2.2.2.2.2.1 z.2.2.2.2.2.2.2.2.2.2.2.2.1 z.2.2.2.2.2.2.2.2.2.2.2.2.2.1 z.2.2.2.2.2.2.2.2.2.2.2.2.2.2.1 z.2.2.2.2.2.2.2.2.2.2.2.2.2.2.2.1 z.2.2.2.2.2.2.2.2.2.2.2.2.2.2.2.2.1 z.2.2.2.2.2.2.2.2.2.2.2.2.2.2.2.2.2.1 z.2.2.2.2.2.2.2.2.2.2.2.2.2.2.2.2.2.2.1 z.2.2.2.2.2.2.2.2.2.2.2.2.2.2.2.2.2.2.2.1 z.2.2.2.2.2.2.2.2.2.2.2.2.2.2.2.2.2.2.2.2.1 z.2.2.2.2.2.2.2.2.2.2.2.2.2.2.2.2.2.2.2.2.2.1 z.2.2.2.2.2.2.2.2.2.2.2.2.2.2.2.2.2.2.2.2.2.2.1 z.2.2.2.2.2.2.2.2.2.2.2.2.2.2.2.2.2.2.2.2.2.2.2) (fun t z => sq_I9 Q g0 (sq_fx u) t z.2) 4 0 (0, (u.1, 0, u.2.2.1, u.2.2.2.1, u.2.2.2.2.1, u.2.2.2.2.2.1, u.2.2.2.2.2.2.1, u.2.2.2.2.2.2.2.1, u.2.2.2.2.2.2.2.2.1, u.2.2.2.2.2.2.2.2.2.1, u.2.2.2.2.2.2.2.2.2.2.1, u.2.2.2.2.2.2.2.2.2.2.2.1, u.2.2.2.2.2.2.2.2.2.2.2.2.1, u.2.2.2.2.2.2.2.2.2.2.2.2.2.1, u.2.2.2.2.2.2.2.2.2.2.2.2.2.2.1, u.2.2.2.2.2.2.2.2.2.2.2.2.2.2.2.1, u.2.2.2.2.2.2.2.2.2.2.2.2.2.2.2.2.1, u.2.2.2.2.2.2.2.2.2.2.2.2.2.2.2.2.2.1, u.2.2.2.2.2.2.2.2.2.2.2.2.2.2.2.2.2.2.1, u.2.2.2.2.2.2.2.2.2.2.2.2.2.2.2.2.2.2.2.1, u.2.2.2.2.2.2.2.2.2.2.2.2.2.2.2.2.2.2.2.2.1, u.2.2.2.2.2.2.2.2.2.2.2.2.2.2.2.2.2.2.2.2.2.1, u.2.2.2.2.2.2.2.2.2.2.2.2.2.2.2.2.2.2.2.2.2.2)) (by omega) ⟨rfl, rfl, 0, rfl, by omega, fun r hr => absurd hr (by omega), fun _ => ⟨rfl, fun r hr => absurd hr (by omega)⟩⟩ ?_ ?_
  · rintro k ⟨gp, u1⟩ ⟨q1, q2, c, q3, q4, q5, q6⟩
    refine pk_le 4 4 (fun _ => h u1 q1 q2 ⟨sq_ar (sq_fx u1), ?_⟩ (fun g => ⟨(q6 g).2, ?_⟩)) (fun z => absurd z (by omega))
    · have := hP.2.1
      rw [sq_sz4] at q4
      exact sq_ar_ok (fun t ht => sq_z6 hP ht) (by omega) q5
    · rw [← (q6 g).1]; exact q3
  · rintro k t ⟨gp, u1⟩ ht ⟨q1, q2, c, q3, q4, q5, q6⟩ hw
    have hz := sq_z6 hP ht
    refine pk_le 4 t (fun z => absurd z (by omega)) (fun _ => ⟨pk_in t 4 ht, ?_⟩)
    intro a5 e5
    rw [nI_clamp (by omega)] at e5
    have start : sq_Ip Q g0 (sq_fx u) t 0 (2 * 0) (u1.1, u1.2.1, u1.2.2.1, u1.2.2.2.1, u1.2.2.2.2.1, u1.2.2.2.2.2.1, u1.2.2.2.2.2.2.1, u1.2.2.2.2.2.2.2.1, u1.2.2.2.2.2.2.2.2.1, u1.2.2.2.2.2.2.2.2.2.1, u1.2.2.2.2.2.2.2.2.2.2.1, a5, u1.2.2.2.2.2.2.2.2.2.2.2.2.1, u1.2.2.2.2.2.2.2.2.2.2.2.2.2.1, u1.2.2.2.2.2.2.2.2.2.2.2.2.2.2.1, u1.2.2.2.2.2.2.2.2.2.2.2.2.2.2.2.1, u1.2.2.2.2.2.2.2.2.2.2.2.2.2.2.2.2.1, u1.2.2.2.2.2.2.2.2.2.2.2.2.2.2.2.2.2.1, u1.2.2.2.2.2.2.2.2.2.2.2.2.2.2.2.2.2.2.1, u1.2.2.2.2.2.2.2.2.2.2.2.2.2.2.2.2.2.2.2.1, u1.2.2.2.2.2.2.2.2.2.2.2.2.2.2.2.2.2.2.2.2.1, u1.2.2.2.2.2.2.2.2.2.2.2.2.2.2.2.2.2.2.2.2.2.1, u1.2.2.2.2.2.2.2.2.2.2.2.2.2.2.2.2.2.2.2.2.2.2) := by
      refine ⟨q1, q2, c, 0, q3, Nat.le_refl _, q4, ⟨?_, Nat.le_refl _, fun i hi => absurd hi (by omega)⟩, fun r hr => ?_, fun g => ⟨rfl, (q6 g).1, ⟨?_, fun i hi => absurd hi (by omega)⟩, fun r hr => ?_⟩⟩
      · show a5 t = nI 0
        rw [e5, pk_us]; rfl
      · obtain ⟨m, h1, h2, h3⟩ := q5 r hr
        refine ⟨m, h1, ?_, h3⟩
        show a5 r = nI m
        rw [e5, pk_un (by omega)]; exact h2
      · show a5 t = nI 0
        rw [e5, pk_us]; rfl
      · have := (q6 g).2 r hr
        refine ⟨?_, this.2⟩
        show a5 r = _
        rw [e5, pk_un (by omega)]; exact this.1
    refine pk_loop (σ := Int32 × St1) (fun k' i z => wX_prepare_24 post (wX_prepare_9 post g0 k) g0 (nI t) k' z.1 (nI i) z.2.1 z.2.2.1 z.2.2.2.1 z.2.2.2.2.1 z.2.2.2.2.2.1 z.2.2.2.2.2.2.1 z.2.2.2.2.2.2.2.1 z.2.2.2.2.2.2.2.2.1 z.2.2.2.2.2.2.2.2.2.1 z.2.2.2.2.2.2.2.2.2.2.1 z.2.2.2.2.2.2.2.2.2.2.2.1 z.2.2.2.2.2.2.2.2.2.2.2.2.1 z.2.2.2.2.2.2.2.2.2.2.2.2.2.1 z.2.2.2.2.2.2.2.2.2.2.2.2.2.2.1 z.2.2.2.2.2.2.2.2.2.2.2.2.2.2.2.1 z.2.2.2.2.2.2.2.2.2.2.2.2.2.2.2.2.1 z.2.2.2.2.2.2.2.2.2.2.2.2.2.2.2.2.2.1 z.2.2.2.2.2.2.2.2.2.2.2.2.2.2.2.2.2.2.1 z.2.2.2.2.2.2.2.2.2.2.2.2.2.2.2.2.2.2.2.1 z.2.2.2.2.2.2.2.2.2.2.2.2.2.2.2.2.2.2.2.2.1 z.2.2.2.2.2.2.2.2.2.2.2.2.2.2.2.2.2.2.2.2.2.1 z.2.2.2.2.2.2.2.2.2.2.2.2.2.2.2.2.2.2.2.2.2.2.1 z.2.2.2.2.2.2.2.2.2.2.2.2.2.2.2.2.2.2.2.2.2.2.2) (fun i z => sq_Ip Q g0 (sq_fx u) t i (2 * i) z.2) (sq_z Q t) 0 (gp, (u1.1, u1.2.1, u1.2.2.1, u1.2.2.2.1, u1.2.2.2.2.1, u1.2.2.2.2.2.1, u1.2.2.2.2.2.2.1, u1.2.2.2.2.2.2.2.1, u1.2.2.2.2.2.2.2.2.1, u1.2.2.2.2.2.2.2.2.2.1, u1.2.2.2.2.2.2.2.2.2.2.1, a5, u1.2.2.2.2.2.2.2.2.2.2.2.2.1, u1.2.2.2.2.2.2.2.2.2.2.2.2.2.1, u1.2.2.2.2.2.2.2.2.2.2.2.2.2.2.1, u1.2.2.2.2.2.2.2.2.2.2.2.2.2.2.2.1, u1.2.2.2.2.2.2.2.2.2.2.2.2.2.2.2.2.1, u1.2.2.2.2.2.2.2.2.2.2.2.2.2.2.2.2.2.1, u1.2.2.2.2.2.2.2.2.2.2.2.2.2.2.2.2.2.2.1, u1.2.2.2.2.2.2.2.2.2.2.2.2.2.2.2.2.2.2.2.1, u1.2.2.2.2.2.2.2.2.2.2.2.2.2.2.2.2.2.2.2.2.1, u1.2.2.2.2.2.2.2.2.2.2.2.2.2.2.2.2.2.2.2.2.2.1, u1.2.2.2.2.2.2.2.2.2.2.2.2.2.2.2.2.2.2.2.2.2.2)) (by omega) start ?_ ?_
    · rintro k' ⟨gp', u2⟩ hI
      have hI' : sq_Ip Q g0 (sq_fx u) t (sq_z Q t) (2 * sq_z Q t) u2 := hI
      obtain ⟨p1, p2, c, l, p3, p4, p5, p6, p7, p8⟩ := hI'
      have ez : u2.2.2.2.2.2.2.2.1 t = nI (sq_z Q t) := by
        have e : u2.2.2.2.2.2.2.2.1 = u.2.2.2.2.2.2.2.1 := congrArg (fun z => z.2.1) p1
        rw [e]; exact (hP.2.2 t ht).1
      refine ⟨pk_in t 4 ht, pk_le (sq_z Q t) (sq_z Q t) (fun _ => nm_r (nI_1 t) (hw (gp', u2) ⟨p1, p2, c, p3, p5, fun r hr => ?_, fun g => ⟨(p8 g).2.1, fun r hr => ?_⟩⟩)) (fun z => absurd z (by omega)) (sq_clt (by omega) ez) rfl⟩
      · by_cases e : r = t
        · rw [e]; exact ⟨l, p4, p6⟩
        · exact p7 r (by omega)
      · by_cases e : r = t
        · rw [e]; exact (p8 g).2.2.1
        · exact (p8 g).2.2.2 r (by omega)
    · rintro k' i ⟨gp', u2⟩ hi hI hw2
      have hI' : sq_Ip Q g0 (sq_fx u) t i (2 * i) u2 := hI
      have hq := (hP.2.2 t ht).2 i hi
      have w1 := hI'.1
      have ez : u2.2.2.2.2.2.2.2.1 t = nI (sq_z Q t) := by
        have e : u2.2.2.2.2.2.2.2.1 = u.2.2.2.2.2.2.2.1 := congrArg (fun z => z.2.1) w1
        rw [e]; exact (hP.2.2 t ht).1
      have f2 : u2.2.2.2.2.2.2.2.2.1 (t * 6 + i) = nI (sq_k Q t i) := by
        have e : u2.2.2.2.2.2.2.2.2.1 = u.2.2.2.2.2.2.2.2.1 := congrArg (fun z => z.2.2.1) w1
        rw [e]; exact hq.1
      have f3 : u2.2.2.2.2.2.2.2.2.2.1 (t * 6 + i) = nI (sq_v Q t i) := by
        have e : u2.2.2.2.2.2.2.2.2.2.1 = u.2.2.2.2.2.2.2.2.2.1 := congrArg (fun z => z.2.2.2.1) w1
        rw [e]; exact hq.2.1
      have f4 : u2.2.2.2.2.2.2.2.2.2.2.1 (t * 6 + i) = nI (sq_w Q t i) := by
        have e : u2.2.2.2.2.2.2.2.2.2.2.1 = u.2.2.2.2.2.2.2.2.2.2.1 := congrArg (fun z => z.2.2.2.2) w1
        rw [e]; exact hq.2.2.1
      refine ⟨pk_in t 4 ht, pk_le (sq_z Q t) i (fun z => absurd z (by omega)) (fun _ => nm_r (sq_6t t i) ⟨pk_in _ 24 (show t * 6 + i < 24 by omega), pk_in _ 24 (show t * 6 + i < 24 by omega), pk_in _ 24 (show t * 6 + i < 24 by omega), ?_⟩) (sq_clt (by omega) ez) rfl⟩
      refine sq_pe (u := u2) hP hI' ht hi (by omega) (sq_clt (by omega) f2) (sq_clt (by omega) f3) (sq_clt (by omega) f4) (fun u3 hI3 => ⟨pk_in t 4 ht, ?_⟩)
      have ez3 : u3.2.2.2.2.2.2.2.1 t = nI (sq_z Q t) := by
        have e : u3.2.2.2.2.2.2.2.1 = u.2.2.2.2.2.2.2.1 := congrArg (fun z => z.2.1) hI3.1
        rw [e]; exact (hP.2.2 t ht).1
      refine pk_le (sq_z Q t) (i + 1) (fun _ => nm_r (nI_1 i) (hw2 (gp', u3) (sq_Ip_up hI3 (by omega)))) (fun z => br_c (fun g => ?_) (fun g => nm_e (nm_r (nI_1 i) (hw2 (gp' + 1, u3) (sq_Ip_up hI3 (by omega)))))) (sq_clt (by omega) ez3) (nI_1 i)
      refine sq_pf (u := u3) hP hI3 ht (by omega) (fun e => ?_) (fun u4 hI4 => nm_e (nm_r (nI_1 i) (hw2 (gp' + 1, u4) hI4)))
      rw [e] at g
      exact sq_sh0 gp' g
end
section
/-! work: both lists are known -/
theorem sq_nodup {α : Type} {f : Nat → α} {n : Nat} (h : ∀ i j, i < j → j < n → f i ≠ f j) : ((List.range n).map f).Nodup := by
  induction n with
  | zero => exact List.nodup_nil
  | succ n ih =>
    rw [List.range_succ, List.map_append, List.nodup_append]
    refine ⟨ih (fun i j h1 h2 => h i j h1 (by omega)), by simp, fun a ha b hb => ?_⟩
    obtain ⟨i, hi, e⟩ := List.mem_map.mp ha
    rw [List.mem_range] at hi
    have hb' : b = f n := by simpa using hb
    rw [← e, hb']
    exact h i n hi (by omega)
theorem sq_Bd_ok {P : sq_P} (hP : sq_PL P) (b : Bool) : sq_Bd P b := by
  intro n f h
  have := sq_B1 hP (sq_nodup h.1) (fun s hs => by
    obtain ⟨i, hi, e⟩ := List.mem_map.mp hs
    rw [← e]
    have := h.2 i (List.mem_range.mp hi)
    cases b with
    | false => exact this
    | true => exact sq_R_strict hP.1 this)
  rw [List.length_map, List.length_range] at this
  exact this
theorem sq_B_ok {P : sq_P} (hP : sq_PL P) (b : Bool) : sq_B P b := by
  intro n f h h2
  have := sq_B2 hP (sq_nodup h) (fun s hs => by
    obtain ⟨i, hi, e⟩ := List.mem_map.mp hs
    rw [← e]
    have := h2 i (List.mem_range.mp hi)
    cases b with
    | false => exact this
    | true => exact sq_F1 hP.1 this)
  rw [List.length_map, List.length_range] at this
  exact this
def sq_so (n : Nat) (f : Nat → Nat) : Prop := ∀ i j, i < j → j < n → f i < f j
theorem sq_uniq1 {n m : Nat} {f g : Nat → Nat} (hf : sq_so n f) (hg : sq_so m g) (h : ∀ x, sq_mb n f x ↔ sq_mb m g x) : ∀ k i, i < k → i < n → i < m → f i = g i := by
  intro k
  induction k with
  | zero => intro i hi; exact absurd hi (Nat.not_lt_zero _)
  | succ k ih =>
    intro i hi hn hm
    have h1 : g i ≤ f i := by
      obtain ⟨j, hj, e⟩ := (h (f i)).mp ⟨i, hn, rfl⟩
      rcases Nat.lt_trichotomy j i with z | z | z
      · have := ih j (by omega) (by omega) hj
        have := hf j i z hn
        omega
      · rw [z] at e; omega
      · have := hg i j z hj; omega
    have h2 : f i ≤ g i := by
      obtain ⟨j, hj, e⟩ := (h (g i)).mpr ⟨i, hm, rfl⟩
      rcases Nat.lt_trichotomy j i with z | z | z
      · have := ih j (by omega) hj (by omega)
        have := hg j i z hm
        omega
      · rw [z] at e; omega
      · have := hf i j z hj; omega
    omega
theorem sq_uniq2 {n m : Nat} {f g : Nat → Nat} (hf : sq_so n f) (hg : sq_so m g) (h : ∀ x, sq_mb n f x ↔ sq_mb m g x) : m ≤ n := by
  rcases Nat.lt_or_ge n m with z | z
  · exfalso
    obtain ⟨j, hj, e⟩ := (h (g n)).mpr ⟨n, z, rfl⟩
    have := sq_uniq1 hf hg h (j + 1) j (by omega) hj (by omega)
    have := hg j n hj z
    omega
  · exact z
theorem sq_OL_uniq {x : Int32 × (Nat → Int32)} {n m : Nat} {f g : Nat → Nat} (hf : sq_so n f) (hg : sq_OL x m g) (h : ∀ y, sq_mb n f y ↔ sq_mb m g y) : sq_OL x n f := by
  have e1 := sq_uniq2 hf hg.2.2.2 h
  have e2 := sq_uniq2 hg.2.2.2 hf (fun y => (h y).symm)
  have e : n = m := by omega
  have hfg : ∀ i, i < n → f i = g i := fun i hi => sq_uniq1 hf hg.2.2.2 h (i + 1) i (by omega) hi (by omega)
  rw [e] at hf hfg ⊢
  exact ⟨hg.1, hg.2.1, fun i hi => by rw [hfg i hi]; exact hg.2.2.1 i hi, hf⟩
def sq_Cn (Q : sq_Q) (n : Nat) (f : Nat → Nat) (n' : Nat) (f' : Nat → Nat) : Prop := sq_so n f ∧ (∀ x, sq_mb n f x ↔ sq_Out (sq_pl Q) false x) ∧ sq_so n' f' ∧ (∀ x, sq_mb n' f' x ↔ sq_Out (sq_pl Q) true x)
theorem sq_enum (p : Nat → Prop) (N : Nat) (h : ∀ x, p x → x < N) : ∃ n f, sq_so n f ∧ ∀ x, sq_mb n f x ↔ p x := by
  induction N generalizing p with
  | zero => exact ⟨0, fun _ => 0, fun i j _ hj => absurd hj (by omega), fun x => ⟨fun ⟨i, hi, _⟩ => absurd hi (by omega), fun hx => absurd (h x hx) (by omega)⟩⟩
  | succ N ih =>
    obtain ⟨n, f, h1, h2⟩ := ih (fun x => p x ∧ x < N) (fun x hx => hx.2)
    by_cases g : p N
    · refine ⟨n + 1, fun i => if i = n then N else f i, fun i j hij hj => ?_, fun x => ⟨fun ⟨i, hi, e⟩ => ?_, fun hx => ?_⟩⟩
      · dsimp only
        rw [if_neg (by omega)]
        by_cases e : j = n
        · rw [if_pos e]; exact ((h2 (f i)).mp ⟨i, by omega, rfl⟩).2
        · rw [if_neg e]; exact h1 i j hij (by omega)
      · dsimp only at e
        by_cases e' : i = n
        · rw [if_pos e'] at e; rw [← e]; exact g
        · rw [if_neg e'] at e; exact ((h2 x).mp ⟨i, by omega, e⟩).1
      · by_cases e : x = N
        · exact ⟨n, by omega, by dsimp only; rw [if_pos rfl, e]⟩
        · obtain ⟨i, hi, ei⟩ := (h2 x).mpr ⟨hx, by have := h x hx; omega⟩
          exact ⟨i, by omega, by dsimp only; rw [if_neg (by omega), ei]⟩
    · refine ⟨n, f, h1, fun x => ⟨fun hx => ((h2 x).mp hx).1, fun hx => (h2 x).mpr ⟨hx, ?_⟩⟩⟩
      have : x ≠ N := fun e => g (e ▸ hx)
      have := h x hx
      omega
theorem sq_Out_lt {P : sq_P} {b : Bool} {x : Nat} (hV : sq_TV P) (h : sq_Out P b x) : x < 262144 := by
  obtain ⟨s, h1, _, e⟩ := h
  rw [← e]
  exact (sq_R_RL hV h1).2.1
theorem sq_Cn_ex {Q : sq_Q} (hV : sq_TV (sq_pl Q)) : ∃ n f n' f', sq_Cn Q n f n' f' := by
  obtain ⟨n, f, h1, h2⟩ := sq_enum (sq_Out (sq_pl Q) false) 262144 (fun x hx => sq_Out_lt hV hx)
  obtain ⟨n', f', h3, h4⟩ := sq_enum (sq_Out (sq_pl Q) true) 262144 (fun x hx => sq_Out_lt hV hx)
  exact ⟨n, f, n', f', h1, h2, h3, h4⟩
def sq_Gd (u : St1) (Q : sq_Q) (n : Nat) (f : Nat → Nat) (n' : Nat) (f' : Nat → Nat) : Prop := sq_Pr (sq_wr (sq_fx u)) Q ∧ u.2.2.2.2.1 = 1 ∧ u.2.1 = nI (sq_lb Q 4) ∧ sq_OL (sq_fo u) n f ∧ sq_OL (u.2.2.2.2.2.2.1, u.2.2.2.2.2.2.2.2.2.2.2.2.2.2.2.2.2.2.2.2.2.2) n' f'
def sq_WI (u : St1) (Q : sq_Q) (n : Nat) (f : Nat → Nat) (n' : Nat) (f' : Nat → Nat) : Prop := sq_Pr (sq_wr (sq_fx u)) Q ∧ (u.2.2.2.2.1 = 0 ∨ sq_Gd u Q n f n' f')
theorem sq_Gd_WI {u : St1} {Q : sq_Q} {n n' : Nat} {f f' : Nat → Nat} (h : sq_Gd u Q n f n' f') : sq_WI u Q n f n' f' := ⟨h.1, Or.inr h⟩
theorem sq_work {post : St1 → Prop} {u : St1} {Q : sq_Q} {n n' : Nat} {f f' : Nat → Nat} (hC : sq_Cn Q n f n' f') (hW : sq_WI u Q n f n' f') (h : ∀ u', sq_Gd u' Q n f n' f' → post u') : wpX_work post u := by
  obtain ⟨hP, hk⟩ := hW
  have hPL := sq_pl_PL hP
  have hV := hPL.1
  rcases hk with hk | hk
  · refine br_t hk ?_
    refine sq_prepare (Q := Q) hP (fun u1 w1 k1 _ hx => ?_)
    obtain ⟨hT1, hl1⟩ := hx rfl
    refine sq_explore (b := true) hV hT1 (fun u2 m g a1 a2 a3 a4 => ?_)
    have hT2 : sq_Tr (sq_fx u2) (sq_pl Q) := by rw [a1]; exact hT1
    have e2 : u2.2.2.2.2.2.1 = nI m := a2.1
    have hm := a2.2.1
    refine pk_loop (fun k i a => wX_work_28 post u2.1 u2.2.1 u2.2.2.1 u2.2.2.2.1 u2.2.2.2.2.1 u2.2.2.2.2.2.1 u2.2.2.2.2.2.1 k (nI i) u2.2.2.2.2.2.2.2.1 u2.2.2.2.2.2.2.2.2.1 u2.2.2.2.2.2.2.2.2.2.1 u2.2.2.2.2.2.2.2.2.2.2.1 u2.2.2.2.2.2.2.2.2.2.2.2.1 u2.2.2.2.2.2.2.2.2.2.2.2.2.1 u2.2.2.2.2.2.2.2.2.2.2.2.2.2.1 u2.2.2.2.2.2.2.2.2.2.2.2.2.2.2.1 u2.2.2.2.2.2.2.2.2.2.2.2.2.2.2.2.1 u2.2.2.2.2.2.2.2.2.2.2.2.2.2.2.2.2.1 u2.2.2.2.2.2.2.2.2.2.2.2.2.2.2.2.2.2.1 u2.2.2.2.2.2.2.2.2.2.2.2.2.2.2.2.2.2.2.1 u2.2.2.2.2.2.2.2.2.2.2.2.2.2.2.2.2.2.2.2.1 u2.2.2.2.2.2.2.2.2.2.2.2.2.2.2.2.2.2.2.2.2.1 u2.2.2.2.2.2.2.2.2.2.2.2.2.2.2.2.2.2.2.2.2.2.1 a) (fun i a => ∀ j, j < i → a j = u2.2.2.2.2.2.2.2.2.2.2.2.2.2.2.2.2.2.2.2.2.2.1 j) m 0 u2.2.2.2.2.2.2.2.2.2.2.2.2.2.2.2.2.2.2.2.2.2.2 (by omega) (fun j hj => absurd hj (by omega)) ?_ ?_
    · intro k a ha
      refine pk_le m m (fun _ => ?_) (fun z => absurd z (by omega)) e2 rfl
      refine sq_explore (u := (u2.1, u2.2.1, u2.2.2.1, u2.2.2.2.1, u2.2.2.2.2.1, u2.2.2.2.2.2.1, u2.2.2.2.2.2.1, u2.2.2.2.2.2.2.2.1, u2.2.2.2.2.2.2.2.2.1, u2.2.2.2.2.2.2.2.2.2.1, u2.2.2.2.2.2.2.2.2.2.2.1, u2.2.2.2.2.2.2.2.2.2.2.2.1, u2.2.2.2.2.2.2.2.2.2.2.2.2.1, u2.2.2.2.2.2.2.2.2.2.2.2.2.2.1, u2.2.2.2.2.2.2.2.2.2.2.2.2.2.2.1, u2.2.2.2.2.2.2.2.2.2.2.2.2.2.2.2.1, u2.2.2.2.2.2.2.2.2.2.2.2.2.2.2.2.2.1, u2.2.2.2.2.2.2.2.2.2.2.2.2.2.2.2.2.2.1, u2.2.2.2.2.2.2.2.2.2.2.2.2.2.2.2.2.2.2.1, u2.2.2.2.2.2.2.2.2.2.2.2.2.2.2.2.2.2.2.2.1, u2.2.2.2.2.2.2.2.2.2.2.2.2.2.2.2.2.2.2.2.2.1, u2.2.2.2.2.2.2.2.2.2.2.2.2.2.2.2.2.2.2.2.2.2.1, a)) (b := false) hV hT2 (fun u3 m' g' b1 b2 b3 b4 => ?_)
      refine h _ ⟨?_, rfl, ?_, ?_, ?_⟩
      · have e : sq_wr (sq_fx u3) = sq_wr (sq_fx u2) := by
          have := congrArg sq_wr b1
          exact this
        have e' : sq_wr (sq_fx u2) = sq_wr (sq_fx u1) := congrArg sq_wr a1
        have : sq_Pr (sq_wr (sq_fx u3)) Q := by rw [e, e', w1]; exact hP
        exact this
      · have e : u3.2.1 = u2.2.1 := congrArg (fun z => z.2.1) b1
        have e' : u2.2.1 = u1.2.1 := congrArg (fun z => z.2.1) a1
        show u3.2.1 = _
        rw [e, e', hl1]
      · have : sq_OL (sq_fo u3) n f := sq_OL_uniq hC.1 b2 (fun y => ⟨fun z => b4 (sq_Bd_ok hPL _) (sq_B_ok hPL _) y ((hC.2.1 y).mp z), fun z => (hC.2.1 y).mpr (b3 y z)⟩)
        exact this
      · have e1' : u3.2.2.2.2.2.2.1 = u2.2.2.2.2.2.1 := congrArg (fun z => z.2.2.2.1) b1
        have e2' : u3.2.2.2.2.2.2.2.2.2.2.2.2.2.2.2.2.2.2.2.2.2.2 = a := congrArg (fun z => z.2.2.2.2.2.2.2.2.2.2.2.2.2) b1
        show sq_OL (u3.2.2.2.2.2.2.1, u3.2.2.2.2.2.2.2.2.2.2.2.2.2.2.2.2.2.2.2.2.2.2) n' f'
        rw [e1', e2']
        refine sq_OL_uniq hC.2.2.1 (m := m) (g := g) ⟨a2.1, a2.2.1, fun i hi => ⟨(ha i hi).trans (a2.2.2.1 i hi).1, (a2.2.2.1 i hi).2⟩, a2.2.2.2⟩ (fun y => ⟨fun z => a4 (sq_Bd_ok hPL _) (sq_B_ok hPL _) y ((hC.2.2.2 y).mp z), fun z => (hC.2.2.2 y).mpr (a3 y z)⟩)
    · intro k i a hi ha hw
      refine pk_le m i (fun z => absurd z (by omega)) (fun _ => ⟨pk_in i 512 (by omega), pk_in i 512 (by omega), ?_⟩) e2 rfl
      intro a16 e16
      rw [nI_clamp (by omega)] at e16
      refine nm_r (nI_1 i) (hw a16 (fun j hj => ?_))
      rw [e16]
      by_cases e : j = i
      · rw [e, pk_us]
      · rw [pk_un e]; exact ha j (by omega)
  · exact br_f (by rw [hk.2.1]; decide) (h u hk)
end
section
/-! what the object answers -/
theorem sq_surpriseNow {post : Int32 → Prop} {u : St1} {n n' : Nat} {f f' : Nat → Nat} (hO : sq_OL (sq_fo u) n f) (hS : sq_OL (u.2.2.2.2.2.2.1, u.2.2.2.2.2.2.2.2.2.2.2.2.2.2.2.2.2.2.2.2.2.2) n' f') (h4 : (∀ i, i < n → sq_mb n' f' (f i)) → post (-4)) (h5 : ∀ i, i < n → ¬ sq_mb n' f' (f i) → post (nI (f i))) : wpX_surpriseNow post u := by
  have e1 : u.2.2.2.2.2.1 = nI n := hO.1
  have hn := hO.2.1
  refine pk_loop (σ := Unit) (fun k i _ => wX_surpriseNow_2 post u.1 u.2.1 u.2.2.1 u.2.2.2.1 u.2.2.2.2.1 u.2.2.2.2.2.1 u.2.2.2.2.2.2.1 u.2.2.2.2.2.2.2.1 u.2.2.2.2.2.2.2.2.1 u.2.2.2.2.2.2.2.2.2.1 u.2.2.2.2.2.2.2.2.2.2.1 u.2.2.2.2.2.2.2.2.2.2.2.1 u.2.2.2.2.2.2.2.2.2.2.2.2.1 u.2.2.2.2.2.2.2.2.2.2.2.2.2.1 u.2.2.2.2.2.2.2.2.2.2.2.2.2.2.1 u.2.2.2.2.2.2.2.2.2.2.2.2.2.2.2.1 u.2.2.2.2.2.2.2.2.2.2.2.2.2.2.2.2.1 u.2.2.2.2.2.2.2.2.2.2.2.2.2.2.2.2.2.1 u.2.2.2.2.2.2.2.2.2.2.2.2.2.2.2.2.2.2.1 u.2.2.2.2.2.2.2.2.2.2.2.2.2.2.2.2.2.2.2.1 u.2.2.2.2.2.2.2.2.2.2.2.2.2.2.2.2.2.2.2.2.1 u.2.2.2.2.2.2.2.2.2.2.2.2.2.2.2.2.2.2.2.2.2.1 u.2.2.2.2.2.2.2.2.2.2.2.2.2.2.2.2.2.2.2.2.2.2 k (nI i)) (fun i _ => ∀ j, j < i → sq_mb n' f' (f j)) n 0 () (by omega) (fun j hj => absurd hj (by omega)) ?_ ?_
  · intro k _ hI
    exact pk_le n n (fun _ => h4 hI) (fun z => absurd z (by omega)) e1 rfl
  · intro k i _ hi hI hw
    have hb := hO.2.2.1 i hi
    have eb : u.2.2.2.2.2.2.2.2.2.2.2.2.2.2.2.2.2.2.2.2.2.1 (nI i).toNatClampNeg = nI (f i) := sq_clt (by omega) hb.1
    refine pk_le n i (fun z => absurd z (by omega)) (fun _ => ⟨pk_in i 512 (by omega), ?_⟩) e1 rfl
    refine sq_has (b := true) (n := n') (f := f') hS eb hb.2 (fun g => br_f (by decide) (nm_r (nI_1 i) (hw () (fun j hj => ?_)))) (fun g => br_t rfl ⟨pk_in i 512 (by omega), ?_⟩)
    · by_cases e : j = i
      · rw [e]; exact g
      · exact hI j (by omega)
    · have := h5 i hi g
      rw [← eb] at this
      exact this
theorem sq_surprise {post : Int32 → St1 → Prop} {u : St1} {Q : sq_Q} {n n' : Nat} {f f' : Nat → Nat} (hC : sq_Cn Q n f n' f') (hW : sq_WI u Q n f n' f') (h4 : (∀ i, i < n → sq_mb n' f' (f i)) → ∀ u', sq_Gd u' Q n f n' f' → post (-4) u') (h5 : ∀ i, i < n → ¬ sq_mb n' f' (f i) → ∀ u', sq_Gd u' Q n f n' f' → post (nI (f i)) u') : wpX_surprise post u := by
  unfold wpX_surprise
  refine sq_work hC hW (fun u' g => ?_)
  refine sq_surpriseNow g.2.2.2.1 g.2.2.2.2 (fun z => h4 z u' g) (fun i hi z => h5 i hi z u' g)
theorem sq_outcomes {post : Int32 → St1 → Prop} {u : St1} {Q : sq_Q} {n n' : Nat} {f f' : Nat → Nat} (hC : sq_Cn Q n f n' f') (hW : sq_WI u Q n f n' f') (h : ∀ u', sq_Gd u' Q n f n' f' → post (nI n) u') : wpX_outcomes post u := by
  unfold wpX_outcomes
  refine sq_work hC hW (fun u' g => ?_)
  have e : u'.2.2.2.2.2.1 = nI n := g.2.2.2.1.1
  have := h u' g
  rw [← e] at this
  exact this
theorem sq_strictOutcomes {post : Int32 → St1 → Prop} {u : St1} {Q : sq_Q} {n n' : Nat} {f f' : Nat → Nat} (hC : sq_Cn Q n f n' f') (hW : sq_WI u Q n f n' f') (h : ∀ u', sq_Gd u' Q n f n' f' → post (nI n') u') : wpX_strictOutcomes post u := by
  unfold wpX_strictOutcomes
  refine sq_work hC hW (fun u' g => ?_)
  have e : u'.2.2.2.2.2.2.1 = nI n' := g.2.2.2.2.1
  have := h u' g
  rw [← e] at this
  exact this
theorem sq_outcome {post : Int32 → St1 → Prop} {u : St1} {Q : sq_Q} {n n' k : Nat} {f f' : Nat → Nat} (hC : sq_Cn Q n f n' f') (hW : sq_WI u Q n f n' f') (hk : k < 2 ^ 31) (h0 : n ≤ k → ∀ u', sq_Gd u' Q n f n' f' → post (-4) u') (h1 : k < n → ∀ u', sq_Gd u' Q n f n' f' → post (nI (f k)) u') : wpX_outcome post u (nI k) := by
  unfold wpX_outcome
  refine sq_work hC hW (fun u' g => ?_)
  have e : u'.2.2.2.2.2.1 = nI n := g.2.2.2.1.1
  have hn := g.2.2.2.1.2.1
  refine br_f (nI_pos hk) (pk_lt k n (fun z => ⟨pk_in k 512 (by omega), ?_⟩) (fun z => h0 z u' g) rfl e)
  have hb := g.2.2.2.1.2.2.1 k z
  have eb : u'.2.2.2.2.2.2.2.2.2.2.2.2.2.2.2.2.2.2.2.2.2.1 (nI k).toNatClampNeg = nI (f k) := sq_clt (by omega) hb.1
  have := h1 z u' g
  rw [← eb] at this
  exact this
theorem sq_strictlyPossible {post : Int32 → St1 → Prop} {u : St1} {Q : sq_Q} {n n' y : Nat} {f f' : Nat → Nat} (hC : sq_Cn Q n f n' f') (hW : sq_WI u Q n f n' f') (hy : y < 262144) (h1 : sq_mb n' f' y → ∀ u', sq_Gd u' Q n f n' f' → post 1 u') (h0 : ¬ sq_mb n' f' y → ∀ u', sq_Gd u' Q n f n' f' → post 0 u') : wpX_strictlyPossible post u (nI y) := by
  unfold wpX_strictlyPossible
  refine sq_work hC hW (fun u' g => ?_)
  exact sq_has (b := true) (n := n') (f := f') g.2.2.2.2 rfl hy (fun z => ⟨narrow_b1, h1 z u' g⟩) (fun z => ⟨narrow_b0, h0 z u' g⟩)
theorem sq_possible {post : Int32 → St1 → Prop} {u : St1} {Q : sq_Q} {n n' y : Nat} {f f' : Nat → Nat} (hC : sq_Cn Q n f n' f') (hW : sq_WI u Q n f n' f') (hy : y < 262144) (h1 : sq_mb n f y → ∀ u', sq_Gd u' Q n f n' f' → post 1 u') (h0 : ¬ sq_mb n f y → ∀ u', sq_Gd u' Q n f n' f' → post 0 u') : wpX_possible post u (nI y) := by
  unfold wpX_possible
  refine sq_work hC hW (fun u' g => ?_)
  exact sq_has (b := false) (n := n) (f := f) g.2.2.2.1 rfl hy (fun z => ⟨narrow_b1, h1 z u' g⟩) (fun z => ⟨narrow_b0, h0 z u' g⟩)
theorem sq_finds {post : Int32 → St1 → Prop} {u : St1} {Q : sq_Q} {n n' k : Nat} {f f' : Nat → Nat} (hC : sq_Cn Q n f n' f') (hW : sq_WI u Q n f n' f') (hk : k < 6) (h0 : ∀ u', sq_Gd u' Q n f n' f' → sq_lb Q 4 ≤ k → post (-4) u') (h1 : ∀ u' S, sq_Gd u' Q n f n' f' → k < sq_lb Q 4 → S < 16 → (∀ i, i < n → S.testBit (sq_C (f i) k) = true) → post (nI S) u') : wpX_finds post u (nI k) := by
  unfold wpX_finds
  refine sq_work hC hW (fun u' g => ?_)
  have e : u'.2.2.2.2.2.1 = nI n := g.2.2.2.1.1
  have el : u'.2.1 = nI (sq_lb Q 4) := g.2.2.1
  have hn := g.2.2.2.1.2.1
  have hlb : sq_lb Q 4 ≤ 6 := by
    have a1 := sq_lb_sz Q 4
    have a2 := g.1.2.1
    rw [sq_sz4] at a1
    omega
  refine br_f (nI_pos (by omega)) (pk_lt k (sq_lb Q 4) (fun z => ?_) (fun z => h0 u' g z) rfl el)
  refine pk_loop (σ := Nat) (fun j i S => wX_finds_23 post (nI k) u'.1 u'.2.1 u'.2.2.1 u'.2.2.2.1 u'.2.2.2.2.1 u'.2.2.2.2.2.1 u'.2.2.2.2.2.2.1 u'.2.2.2.2.2.2.2.1 u'.2.2.2.2.2.2.2.2.1 u'.2.2.2.2.2.2.2.2.2.1 u'.2.2.2.2.2.2.2.2.2.2.1 u'.2.2.2.2.2.2.2.2.2.2.2.1 u'.2.2.2.2.2.2.2.2.2.2.2.2.1 u'.2.2.2.2.2.2.2.2.2.2.2.2.2.1 u'.2.2.2.2.2.2.2.2.2.2.2.2.2.2.1 u'.2.2.2.2.2.2.2.2.2.2.2.2.2.2.2.1 u'.2.2.2.2.2.2.2.2.2.2.2.2.2.2.2.2.1 u'.2.2.2.2.2.2.2.2.2.2.2.2.2.2.2.2.2.1 u'.2.2.2.2.2.2.2.2.2.2.2.2.2.2.2.2.2.2.1 u'.2.2.2.2.2.2.2.2.2.2.2.2.2.2.2.2.2.2.2.1 u'.2.2.2.2.2.2.2.2.2.2.2.2.2.2.2.2.2.2.2.2.1 u'.2.2.2.2.2.2.2.2.2.2.2.2.2.2.2.2.2.2.2.2.2.1 u'.2.2.2.2.2.2.2.2.2.2.2.2.2.2.2.2.2.2.2.2.2.2 j (nI S) (nI i)) (fun i S => S < 16 ∧ ∀ j, j < i → S.testBit (sq_C (f j) k) = true) n 0 0 (by omega) ⟨by omega, fun j hj => absurd hj (by omega)⟩ ?_ ?_
  · intro j S hI
    exact pk_le n n (fun _ => h1 u' S g z hI.1 hI.2) (fun z => absurd z (by omega)) e rfl
  · intro j i S hi hI hw
    have hb := g.2.2.2.1.2.2.1 i hi
    have hc := sq_C4 (f i) k
    refine pk_le n i (fun z => absurd z (by omega)) (fun _ => ⟨pk_in i 512 (by omega), nm_r (e' := nI (S ||| (1 <<< sq_C (f i) k))) ?_ (nm_r (nI_1 i) (hw _ ⟨?_, fun r hr => ?_⟩))⟩) e rfl
    · have eb : u'.2.2.2.2.2.2.2.2.2.2.2.2.2.2.2.2.2.2.2.2.2.1 (nI i).toNatClampNeg = nI (f i) := sq_clt (by omega) hb.1
      rw [eb, sq_get (j := k) (by omega) (by omega) (sq_2x k)]
      show nI S ||| (nI 1 <<< (nI (sq_C (f i) k) &&& 31)) = _
      have h4 : ∀ c, c < 4 → 1 * 2 ^ c < 2 ^ 32 := by decide
      rw [sq_shl (by omega) (h4 _ hc), sq_nor]
    · have h4 : ∀ c, c < 4 → 1 <<< c < 2 ^ 4 := by decide
      exact Nat.or_lt_two_pow (n := 4) hI.1 (h4 _ hc)
    · rw [Nat.testBit_or]
      by_cases er : r = i
      · rw [er, Nat.one_shiftLeft, Nat.testBit_two_pow_self, Bool.or_true]
      · rw [hI.2 r (by omega), Bool.true_or]
/-! fencesNeeded -/
theorem sq_sizeOf {post : Int32 → Prop} {u : St1} {y : Int32} (h : ∀ r, post r) : wpX_sizeOf post u y := by
  refine pk_loop (σ := Int32) (fun k i c => wX_sizeOf_4 post y u.1 u.2.1 u.2.2.1 u.2.2.2.1 u.2.2.2.2.1 u.2.2.2.2.2.1 u.2.2.2.2.2.2.1 u.2.2.2.2.2.2.2.1 u.2.2.2.2.2.2.2.2.1 u.2.2.2.2.2.2.2.2.2.1 u.2.2.2.2.2.2.2.2.2.2.1 u.2.2.2.2.2.2.2.2.2.2.2.1 u.2.2.2.2.2.2.2.2.2.2.2.2.1 u.2.2.2.2.2.2.2.2.2.2.2.2.2.1 u.2.2.2.2.2.2.2.2.2.2.2.2.2.2.1 u.2.2.2.2.2.2.2.2.2.2.2.2.2.2.2.1 u.2.2.2.2.2.2.2.2.2.2.2.2.2.2.2.2.1 u.2.2.2.2.2.2.2.2.2.2.2.2.2.2.2.2.2.1 u.2.2.2.2.2.2.2.2.2.2.2.2.2.2.2.2.2.2.1 u.2.2.2.2.2.2.2.2.2.2.2.2.2.2.2.2.2.2.2.1 u.2.2.2.2.2.2.2.2.2.2.2.2.2.2.2.2.2.2.2.2.1 u.2.2.2.2.2.2.2.2.2.2.2.2.2.2.2.2.2.2.2.2.2.1 u.2.2.2.2.2.2.2.2.2.2.2.2.2.2.2.2.2.2.2.2.2.2 k c (nI i)) (fun _ _ => True) 6 0 0 (by omega) trivial ?_ ?_
  · intro k c _
    exact pk_le 6 6 (fun _ => h c) (fun z => absurd z (by omega))
  · intro k i c hi _ hw
    exact pk_le 6 i (fun z => absurd z (by omega)) (fun _ => nm_e (nm_r (nI_1 i) (hw _ trivial)))
def sq_gp (Q : sq_Q) : Nat → Nat
  | 0 => 0
  | t + 1 => sq_gp Q t + (sq_z Q t - 1)
theorem sq_gp_sz (Q : sq_Q) : ∀ t, sq_gp Q t ≤ sq_sz Q t
  | 0 => Nat.le_refl _
  | t + 1 => by
    have := sq_gp_sz Q t
    show sq_gp Q t + (sq_z Q t - 1) ≤ sq_sz Q t + sq_z Q t
    omega
theorem sq_countGaps {post : Int32 → Prop} {u : St1} {Q : sq_Q} (hP : sq_Pr (sq_wr (sq_fx u)) Q) (h : post (nI (sq_gp Q 4))) : wpX_countGaps post u := by
  refine pk_loop (σ := Unit) (fun k i _ => wX_countGaps_4 post u.1 u.2.1 u.2.2.1 u.2.2.2.1 u.2.2.2.2.1 u.2.2.2.2.2.1 u.2.2.2.2.2.2.1 u.2.2.2.2.2.2.2.1 u.2.2.2.2.2.2.2.2.1 u.2.2.2.2.2.2.2.2.2.1 u.2.2.2.2.2.2.2.2.2.2.1 u.2.2.2.2.2.2.2.2.2.2.2.1 u.2.2.2.2.2.2.2.2.2.2.2.2.1 u.2.2.2.2.2.2.2.2.2.2.2.2.2.1 u.2.2.2.2.2.2.2.2.2.2.2.2.2.2.1 u.2.2.2.2.2.2.2.2.2.2.2.2.2.2.2.1 u.2.2.2.2.2.2.2.2.2.2.2.2.2.2.2.2.1 u.2.2.2.2.2.2.2.2.2.2.2.2.2.2.2.2.2.1 u.2.2.2.2.2.2.2.2.2.2.2.2.2.2.2.2.2.2.1 u.2.2.2.2.2.2.2.2.2.2.2.2.2.2.2.2.2.2.2.1 u.2.2.2.2.2.2.2.2.2.2.2.2.2.2.2.2.2.2.2.2.1 u.2.2.2.2.2.2.2.2.2.2.2.2.2.2.2.2.2.2.2.2.2.1 u.2.2.2.2.2.2.2.2.2.2.2.2.2.2.2.2.2.2.2.2.2.2 k (nI (sq_gp Q i)) (nI i)) (fun _ _ => True) 4 0 () (by omega) trivial ?_ ?_
  · intro k _ _
    exact pk_le 4 4 (fun _ => h) (fun z => absurd z (by omega))
  · intro k i _ hi _ hw
    have hz := sq_z6 hP hi
    have ez : u.2.2.2.2.2.2.2.1 (nI i).toNatClampNeg = nI (sq_z Q i) := sq_clt (by omega) (hP.2.2 i hi).1
    have hw' : wX_countGaps_4 post u.1 u.2.1 u.2.2.1 u.2.2.2.1 u.2.2.2.2.1 u.2.2.2.2.2.1 u.2.2.2.2.2.2.1 u.2.2.2.2.2.2.2.1 u.2.2.2.2.2.2.2.2.1 u.2.2.2.2.2.2.2.2.2.1 u.2.2.2.2.2.2.2.2.2.2.1 u.2.2.2.2.2.2.2.2.2.2.2.1 u.2.2.2.2.2.2.2.2.2.2.2.2.1 u.2.2.2.2.2.2.2.2.2.2.2.2.2.1 u.2.2.2.2.2.2.2.2.2.2.2.2.2.2.1 u.2.2.2.2.2.2.2.2.2.2.2.2.2.2.2.1 u.2.2.2.2.2.2.2.2.2.2.2.2.2.2.2.2.1 u.2.2.2.2.2.2.2.2.2.2.2.2.2.2.2.2.2.1 u.2.2.2.2.2.2.2.2.2.2.2.2.2.2.2.2.2.2.1 u.2.2.2.2.2.2.2.2.2.2.2.2.2.2.2.2.2.2.2.1 u.2.2.2.2.2.2.2.2.2.2.2.2.2.2.2.2.2.2.2.2.1 u.2.2.2.2.2.2.2.2.2.2.2.2.2.2.2.2.2.2.2.2.2.1 u.2.2.2.2.2.2.2.2.2.2.2.2.2.2.2.2.2.2.2.2.2.2 k (nI (sq_gp Q i + (sq_z Q i - 1))) (nI (i + 1)) := hw () trivial
    refine pk_le 4 i (fun z => absurd z (by omega)) (fun _ => ⟨pk_in i 4 hi, pk_le (sq_z Q i) 1 (fun z => nm_r (nI_1 i) ?_) (fun z => ⟨pk_in i 4 hi, nm_r (e' := nI (sq_gp Q i + (sq_z Q i - 1))) ?_ (nm_r (nI_1 i) hw')⟩) ez rfl⟩)
    · rw [show sq_gp Q i + (sq_z Q i - 1) = sq_gp Q i by omega] at hw'
      exact hw'
    · rw [ez, nI_add, show sq_gp Q i + sq_z Q i = sq_gp Q i + (sq_z Q i - 1) + 1 by omega, nI_pred]
def sq_Fi (Q : sq_Q) (n' : Nat) (f' : Nat → Nat) (u : St1) : Prop := sq_Pr (sq_wr (sq_fx u)) Q ∧ sq_OL (u.2.2.2.2.2.2.1, u.2.2.2.2.2.2.2.2.2.2.2.2.2.2.2.2.2.2.2.2.2.2) n' f'
theorem sq_f27 {post : Int32 → St1 → Prop} {u : St1} {Q : sq_Q} {n' g : Nat} {f' : Nat → Nat} (hF : sq_Fi Q n' f' u) (hg : 1 ≤ g) (hg6 : g ≤ 6) (h : ∀ b u', 1 ≤ b → b ≤ 6 → sq_Pr (sq_wr (sq_fx u')) Q → u'.2.2.2.2.1 = 0 → post (nI b) u') : ∃ fu, wX_fencesNeeded_27 post (nI g) fu (nI g) 1 u.1 u.2.1 u.2.2.1 u.2.2.2.1 u.2.2.2.2.1 u.2.2.2.2.2.1 u.2.2.2.2.2.2.1 u.2.2.2.2.2.2.2.1 u.2.2.2.2.2.2.2.2.1 u.2.2.2.2.2.2.2.2.2.1 u.2.2.2.2.2.2.2.2.2.2.1 u.2.2.2.2.2.2.2.2.2.2.2.1 u.2.2.2.2.2.2.2.2.2.2.2.2.1 u.2.2.2.2.2.2.2.2.2.2.2.2.2.1 u.2.2.2.2.2.2.2.2.2.2.2.2.2.2.1 u.2.2.2.2.2.2.2.2.2.2.2.2.2.2.2.1 u.2.2.2.2.2.2.2.2.2.2.2.2.2.2.2.2.1 u.2.2.2.2.2.2.2.2.2.2.2.2.2.2.2.2.2.1 u.2.2.2.2.2.2.2.2.2.2.2.2.2.2.2.2.2.2.1 u.2.2.2.2.2.2.2.2.2.2.2.2.2.2.2.2.2.2.2.1 u.2.2.2.2.2.2.2.2.2.2.2.2.2.2.2.2.2.2.2.2.1 u.2.2.2.2.2.2.2.2.2.2.2.2.2.2.2.2.2.2.2.2.2.1 u.2.2.2.2.2.2.2.2.2.2.2.2.2.2.2.2.2.2.2.2.2.2 := by
  have hgo : ∀ b (v : St1), 1 ≤ b → b ≤ 6 → sq_Fi Q n' f' v → post (nI b) (v.1, v.2.1, v.2.2.1, v.2.2.2.1, 0, v.2.2.2.2.2.1, v.2.2.2.2.2.2.1, v.2.2.2.2.2.2.2.1, v.2.2.2.2.2.2.2.2.1, v.2.2.2.2.2.2.2.2.2.1, v.2.2.2.2.2.2.2.2.2.2.1, v.2.2.2.2.2.2.2.2.2.2.2.1, v.2.2.2.2.2.2.2.2.2.2.2.2.1, v.2.2.2.2.2.2.2.2.2.2.2.2.2.1, v.2.2.2.2.2.2.2.2.2.2.2.2.2.2.1, v.2.2.2.2.2.2.2.2.2.2.2.2.2.2.2.1, v.2.2.2.2.2.2.2.2.2.2.2.2.2.2.2.2.1, v.2.2.2.2.2.2.2.2.2.2.2.2.2.2.2.2.2.1, v.2.2.2.2.2.2.2.2.2.2.2.2.2.2.2.2.2.2.1, v.2.2.2.2.2.2.2.2.2.2.2.2.2.2.2.2.2.2.2.1, v.2.2.2.2.2.2.2.2.2.2.2.2.2.2.2.2.2.2.2.2.1, v.2.2.2.2.2.2.2.2.2.2.2.2.2.2.2.2.2.2.2.2.2.1, v.2.2.2.2.2.2.2.2.2.2.2.2.2.2.2.2.2.2.2.2.2.2) := fun b v h1 h2 h3 => h b (v.1, v.2.1, v.2.2.1, v.2.2.2.1, 0, v.2.2.2.2.2.1, v.2.2.2.2.2.2.1, v.2.2.2.2.2.2.2.1, v.2.2.2.2.2.2.2.2.1, v.2.2.2.2.2.2.2.2.2.1, v.2.2.2.2.2.2.2.2.2.2.1, v.2.2.2.2.2.2.2.2.2.2.2.1, v.2.2.2.2.2.2.2.2.2.2.2.2.1, v.2.2.2.2.2.2.2.2.2.2.2.2.2.1, v.2.2.2.2.2.2.2.2.2.2.2.2.2.2.1, v.2.2.2.2.2.2.2.2.2.2.2.2.2.2.2.1, v.2.2.2.2.2.2.2.2.2.2.2.2.2.2.2.2.1, v.2.2.2.2.2.2.2.2.2.2.2.2.2.2.2.2.2.1, v.2.2.2.2.2.2.2.2.2.2.2.2.2.2.2.2.2.2.1, v.2.2.2.2.2.2.2.2.2.2.2.2.2.2.2.2.2.2.2.1, v.2.2.2.2.2.2.2.2.2.2.2.2.2.2.2.2.2.2.2.2.1, v.2.2.2.2.2.2.2.2.2.2.2.2.2.2.2.2.2.2.2.2.2.1, v.2.2.2.2.2.2.2.2.2.2.2.2.2.2.2.2.2.2.2.2.2.2) h1 h2 h3.1 rfl
  refine pk_loop (σ := Nat × St1) (fun k m z => wX_fencesNeeded_27 post (nI g) k (nI z.1) (nI m) z.2.1 z.2.2.1 z.2.2.2.1 z.2.2.2.2.1 z.2.2.2.2.2.1 z.2.2.2.2.2.2.1 z.2.2.2.2.2.2.2.1 z.2.2.2.2.2.2.2.2.1 z.2.2.2.2.2.2.2.2.2.1 z.2.2.2.2.2.2.2.2.2.2.1 z.2.2.2.2.2.2.2.2.2.2.2.1 z.2.2.2.2.2.2.2.2.2.2.2.2.1 z.2.2.2.2.2.2.2.2.2.2.2.2.2.1 z.2.2.2.2.2.2.2.2.2.2.2.2.2.2.1 z.2.2.2.2.2.2.2.2.2.2.2.2.2.2.2.1 z.2.2.2.2.2.2.2.2.2.2.2.2.2.2.2.2.1 z.2.2.2.2.2.2.2.2.2.2.2.2.2.2.2.2.2.1 z.2.2.2.2.2.2.2.2.2.2.2.2.2.2.2.2.2.2.1 z.2.2.2.2.2.2.2.2.2.2.2.2.2.2.2.2.2.2.2.1 z.2.2.2.2.2.2.2.2.2.2.2.2.2.2.2.2.2.2.2.2.1 z.2.2.2.2.2.2.2.2.2.2.2.2.2.2.2.2.2.2.2.2.2.1 z.2.2.2.2.2.2.2.2.2.2.2.2.2.2.2.2.2.2.2.2.2.2.1 z.2.2.2.2.2.2.2.2.2.2.2.2.2.2.2.2.2.2.2.2.2.2.2) (fun m z => 1 ≤ m ∧ 1 ≤ z.1 ∧ z.1 ≤ 6 ∧ sq_Fi Q n' f' z.2) g 1 (g, u) hg ⟨Nat.le_refl _, hg, hg6, hF⟩ ?_ ?_
  · rintro k ⟨b, v⟩ ⟨_, i1, i2, i3⟩
    exact pk_le g g (fun _ => hgo b v i1 i2 i3) (fun z => absurd z (by omega))
  · rintro k m ⟨b, v⟩ hm ⟨hm1, i1, i2, i3⟩ hw
    refine pk_le g m (fun z => absurd z (by omega)) (fun _ => br_c (fun eb => ?_) (fun _ => hgo b v i1 i2 i3))
    have h2 : ∀ g, g ≤ 6 → 1 * 2 ^ g < 2 ^ 32 ∧ 1 <<< g < 2 ^ 31 := by decide
    have e2 : (1 : Int32) <<< (nI g &&& 31) = nI (1 <<< g) := sq_shl (m := 1) (by omega) (h2 g hg6).1
    have hg31 := (h2 g hg6).2
    refine pk_loop (σ := Nat × St1) (fun k' i z => wX_fencesNeeded_41 post (wX_fencesNeeded_27 post (nI g) k) (nI g) (nI m) k' (nI z.1) (nI i) z.2.1 z.2.2.1 z.2.2.2.1 z.2.2.2.2.1 z.2.2.2.2.2.1 z.2.2.2.2.2.2.1 z.2.2.2.2.2.2.2.1 z.2.2.2.2.2.2.2.2.1 z.2.2.2.2.2.2.2.2.2.1 z.2.2.2.2.2.2.2.2.2.2.1 z.2.2.2.2.2.2.2.2.2.2.2.1 z.2.2.2.2.2.2.2.2.2.2.2.2.1 z.2.2.2.2.2.2.2.2.2.2.2.2.2.1 z.2.2.2.2.2.2.2.2.2.2.2.2.2.2.1 z.2.2.2.2.2.2.2.2.2.2.2.2.2.2.2.1 z.2.2.2.2.2.2.2.2.2.2.2.2.2.2.2.2.1 z.2.2.2.2.2.2.2.2.2.2.2.2.2.2.2.2.2.1 z.2.2.2.2.2.2.2.2.2.2.2.2.2.2.2.2.2.2.1 z.2.2.2.2.2.2.2.2.2.2.2.2.2.2.2.2.2.2.2.1 z.2.2.2.2.2.2.2.2.2.2.2.2.2.2.2.2.2.2.2.2.1 z.2.2.2.2.2.2.2.2.2.2.2.2.2.2.2.2.2.2.2.2.2.1 z.2.2.2.2.2.2.2.2.2.2.2.2.2.2.2.2.2.2.2.2.2.2.1 z.2.2.2.2.2.2.2.2.2.2.2.2.2.2.2.2.2.2.2.2.2.2.2) (fun i z => 1 ≤ z.1 ∧ z.1 ≤ 6 ∧ sq_Fi Q n' f' z.2) (1 <<< g) 0 (b, v) (Nat.zero_le _) ⟨i1, i2, i3⟩ ?_ ?_
    · rintro k' ⟨b', v'⟩ ⟨j1, j2, j3⟩
      exact pk_le (1 <<< g) (1 <<< g) (fun _ => nm_r (nI_1 m) (hw (b', v') ⟨by omega, j1, j2, j3⟩)) (fun z => absurd z (by omega)) e2 rfl
    · rintro k' i ⟨b', v'⟩ hi ⟨j1, j2, j3⟩ hw2
      have j1' : 1 ≤ b' := j1
      have j2' : b' ≤ 6 := j2
      have j3' : sq_Fi Q n' f' v' := j3
      refine pk_le (1 <<< g) i (fun z => absurd z (by omega)) (fun _ => br_c (fun _ => ?_) (fun _ => nm_r (nI_1 m) (hw (b', v') ⟨by omega, j1, j2, j3⟩))) e2 rfl
      refine sq_sizeOf (fun r => br_c (fun _ => ?_) (fun _ => nm_r (nI_1 i) (hw2 (b', v') ⟨j1, j2, j3⟩)))
      refine sq_prepare (u := v') (Q := Q) j3'.1 (fun v1 w1 k1 ⟨P, hV, hT⟩ _ => ?_)
      refine sq_explore (b := false) hV hT (fun v2 m2 g2 a1 a2 _ _ => ?_)
      have hFi : sq_Fi Q n' f' v2 := by
        refine ⟨by rw [a1, w1]; exact j3'.1, ?_⟩
        have e1 : v2.2.2.2.2.2.2.1 = v1.2.2.2.2.2.2.1 := congrArg (fun z => z.2.2.2.1) a1
        have e3 : v2.2.2.2.2.2.2.2.2.2.2.2.2.2.2.2.2.2.2.2.2.2.2 = v1.2.2.2.2.2.2.2.2.2.2.2.2.2.2.2.2.2.2.2.2.2.2 := congrArg (fun z => z.2.2.2.2.2.2.2.2.2.2.2.2.2) a1
        have e4 : v1.2.2.2.2.2.2.1 = v'.2.2.2.2.2.2.1 := congrArg (fun z => z.2.1) k1
        have e5 : v1.2.2.2.2.2.2.2.2.2.2.2.2.2.2.2.2.2.2.2.2.2.2 = v'.2.2.2.2.2.2.2.2.2.2.2.2.2.2.2.2.2.2.2.2.2.2 := congrArg (fun z => z.2.2) k1
        rw [e1, e3, e4, e5]
        exact j3'.2
      have fin : ∀ r : Int32, (r = (-4) → ∀ x5 : Int32, x5 = nI i + 1 → wX_fencesNeeded_41 post (wX_fencesNeeded_27 post (nI g) k) (nI g) (nI m) k' (nI m) x5 v2.1 v2.2.1 v2.2.2.1 v2.2.2.2.1 v2.2.2.2.2.1 v2.2.2.2.2.2.1 v2.2.2.2.2.2.2.1 v2.2.2.2.2.2.2.2.1 v2.2.2.2.2.2.2.2.2.1 v2.2.2.2.2.2.2.2.2.2.1 v2.2.2.2.2.2.2.2.2.2.2.1 v2.2.2.2.2.2.2.2.2.2.2.2.1 v2.2.2.2.2.2.2.2.2.2.2.2.2.1 v2.2.2.2.2.2.2.2.2.2.2.2.2.2.1 v2.2.2.2.2.2.2.2.2.2.2.2.2.2.2.1 v2.2.2.2.2.2.2.2.2.2.2.2.2.2.2.2.1 v2.2.2.2.2.2.2.2.2.2.2.2.2.2.2.2.2.1 v2.2.2.2.2.2.2.2.2.2.2.2.2.2.2.2.2.2.1 v2.2.2.2.2.2.2.2.2.2.2.2.2.2.2.2.2.2.2.1 v2.2.2.2.2.2.2.2.2.2.2.2.2.2.2.2.2.2.2.2.1 v2.2.2.2.2.2.2.2.2.2.2.2.2.2.2.2.2.2.2.2.2.1 v2.2.2.2.2.2.2.2.2.2.2.2.2.2.2.2.2.2.2.2.2.2.1 v2.2.2.2.2.2.2.2.2.2.2.2.2.2.2.2.2.2.2.2.2.2.2) ∧ (¬ r = (-4) → ∀ x5 : Int32, x5 = nI i + 1 → wX_fencesNeeded_41 post (wX_fencesNeeded_27 post (nI g) k) (nI g) (nI m) k' (nI b') x5 v2.1 v2.2.1 v2.2.2.1 v2.2.2.2.1 v2.2.2.2.2.1 v2.2.2.2.2.2.1 v2.2.2.2.2.2.2.1 v2.2.2.2.2.2.2.2.1 v2.2.2.2.2.2.2.2.2.1 v2.2.2.2.2.2.2.2.2.2.1 v2.2.2.2.2.2.2.2.2.2.2.1 v2.2.2.2.2.2.2.2.2.2.2.2.1 v2.2.2.2.2.2.2.2.2.2.2.2.2.1 v2.2.2.2.2.2.2.2.2.2.2.2.2.2.1 v2.2.2.2.2.2.2.2.2.2.2.2.2.2.2.1 v2.2.2.2.2.2.2.2.2.2.2.2.2.2.2.2.1 v2.2.2.2.2.2.2.2.2.2.2.2.2.2.2.2.2.1 v2.2.2.2.2.2.2.2.2.2.2.2.2.2.2.2.2.2.1 v2.2.2.2.2.2.2.2.2.2.2.2.2.2.2.2.2.2.2.1 v2.2.2.2.2.2.2.2.2.2.2.2.2.2.2.2.2.2.2.2.1 v2.2.2.2.2.2.2.2.2.2.2.2.2.2.2.2.2.2.2.2.2.1 v2.2.2.2.2.2.2.2.2.2.2.2.2.2.2.2.2.2.2.2.2.2.1 v2.2.2.2.2.2.2.2.2.2.2.2.2.2.2.2.2.2.2.2.2.2.2) :=
        fun r => br_c (fun _ => nm_r (nI_1 i) (hw2 (m, v2) ⟨hm1, by show m ≤ 6; omega, hFi⟩)) (fun _ => nm_r (nI_1 i) (hw2 (b', v2) ⟨j1, j2, hFi⟩))
      exact sq_surpriseNow a2 hFi.2 (fun _ => fin _) (fun j _ _ => fin _)
theorem sq_gp0 {y : Int32 × (Nat → Int32) × (Nat → Int32) × (Nat → Int32) × (Nat → Int32)} {Q : sq_Q} {n n' : Nat} {f f' : Nat → Nat} (hP : sq_Pr y Q) (hC : sq_Cn Q n f n' f') {i : Nat} (hi : i < n) (h : ¬ sq_mb n' f' (f i)) : 1 ≤ sq_gp Q 4 := by
  rcases Nat.eq_zero_or_pos (sq_gp Q 4) with e | e
  · exfalso
    refine h ((hC.2.2.2 _).mpr (sq_F2 (sq_pl_PL hP).1 (fun t ht j hj => ?_) ((hC.2.1 _).mp ⟨i, hi, rfl⟩)))
    have e' : 0 + (sq_z Q 0 - 1) + (sq_z Q 1 - 1) + (sq_z Q 2 - 1) + (sq_z Q 3 - 1) = 0 := e
    have hj' : j + 1 < sq_z Q t := hj
    rcases sq_t4 ht with z | z | z | z <;> rw [z] at hj' <;> omega
  · exact e
theorem sq_fences {post : Int32 → St1 → Prop} {u : St1} {Q : sq_Q} {n n' : Nat} {f f' : Nat → Nat} (hC : sq_Cn Q n f n' f') (hW : sq_WI u Q n f n' f') (h0 : (∀ i, i < n → sq_mb n' f' (f i)) → ∀ u', sq_WI u' Q n f n' f' → post 0 u') (h1 : (∃ i, i < n ∧ ¬ sq_mb n' f' (f i)) → ∀ b u', 1 ≤ b → b ≤ 6 → sq_WI u' Q n f n' f' → post (nI b) u') : wpX_fencesNeeded post u := by
  unfold wpX_fencesNeeded
  refine sq_work hC hW (fun u' g => ?_)
  refine sq_surpriseNow g.2.2.2.1 g.2.2.2.2 (fun z => br_t rfl (h0 z u' (sq_Gd_WI g))) (fun i hi z => br_f ?_ ?_)
  · have hb := g.2.2.2.1.2.2.1 i hi
    intro e
    exact nI_pos (show f i < 2 ^ 31 by omega) (by rw [e]; decide)
  · refine sq_countGaps (u := u') (Q := Q) g.1 ?_
    have g1 := sq_gp0 g.1 hC hi z
    have g2 := sq_gp_sz Q 4
    have g3 := g.1.2.1
    rw [sq_sz4] at g2
    exact sq_f27 (u := u') ⟨g.1, g.2.2.2.2⟩ g1 (by omega) (fun b v b1 b2 b3 b4 => h1 ⟨i, hi, z⟩ b v b1 b2 ⟨b3, Or.inl b4⟩)
end
section
/-! the program is written -/
def sq_qp (Q : sq_Q) (t k v w : Nat) : sq_Q := (fun r => if r = t then sq_z Q t + 1 else sq_z Q r, fun r i => if r = t ∧ i = sq_z Q t then k else sq_k Q r i, fun r i => if r = t ∧ i = sq_z Q t then v else sq_v Q r i, fun r i => if r = t ∧ i = sq_z Q t then w else sq_w Q r i)
def sq_qd (Q : sq_Q) (t : Nat) : sq_Q := (fun r => if r = t then sq_z Q t - 1 else sq_z Q r, sq_k Q, sq_v Q, sq_w Q)
def sq_sm4 (Q : sq_Q) : Nat := sq_z Q 0 + sq_z Q 1 + sq_z Q 2 + sq_z Q 3
theorem sq_sum_up {z : Nat → Nat} {t a : Nat} (ht : t < 4) : (if 0 = t then a else z 0) + (if 1 = t then a else z 1) + (if 2 = t then a else z 2) + (if 3 = t then a else z 3) + z t = z 0 + z 1 + z 2 + z 3 + a := by
  rcases sq_t4 ht with e | e | e | e <;> rw [e] <;> simp <;> omega
theorem sq_Pr_put {y : Int32 × (Nat → Int32) × (Nat → Int32) × (Nat → Int32) × (Nat → Int32)} {Q : sq_Q} {t k v w : Nat} (h : sq_Pr y Q) (ht : t < 4) (hs : sq_sm4 Q < 6) (hk : k < 3) (hv : v < 3) (hw : w < 4) :
    sq_Pr (nI (sq_sm4 Q + 1), upd y.2.1 t (nI (sq_z Q t + 1)), upd y.2.2.1 (t * 6 + sq_z Q t) (nI k), upd y.2.2.2.1 (t * 6 + sq_z Q t) (nI v), upd y.2.2.2.2 (t * 6 + sq_z Q t) (nI w)) (sq_qp Q t k v w) := by
  have hz : ∀ r, r < 4 → sq_z Q r ≤ 5 := by
    intro r hr
    unfold sq_sm4 at hs
    rcases sq_t4 hr with e | e | e | e <;> rw [e] <;> omega
  have hzt := hz t ht
  have hsum : sq_z (sq_qp Q t k v w) 0 + sq_z (sq_qp Q t k v w) 1 + sq_z (sq_qp Q t k v w) 2 + sq_z (sq_qp Q t k v w) 3 = sq_sm4 Q + 1 := by
    have := sq_sum_up (z := sq_z Q) (a := sq_z Q t + 1) ht
    show (if 0 = t then sq_z Q t + 1 else sq_z Q 0) + (if 1 = t then sq_z Q t + 1 else sq_z Q 1) + (if 2 = t then sq_z Q t + 1 else sq_z Q 2) + (if 3 = t then sq_z Q t + 1 else sq_z Q 3) = sq_z Q 0 + sq_z Q 1 + sq_z Q 2 + sq_z Q 3 + 1
    omega
  refine ⟨by rw [hsum], by rw [hsum]; omega, fun r hr => ?_⟩
  have hb := h.2.2 r hr
  have hzr := hz r hr
  have old : ∀ i, i < sq_z Q r → upd y.2.2.1 (t * 6 + sq_z Q t) (nI k) (r * 6 + i) = nI (sq_k (sq_qp Q t k v w) r i) ∧ upd y.2.2.2.1 (t * 6 + sq_z Q t) (nI v) (r * 6 + i) = nI (sq_v (sq_qp Q t k v w) r i) ∧ upd y.2.2.2.2 (t * 6 + sq_z Q t) (nI w) (r * 6 + i) = nI (sq_w (sq_qp Q t k v w) r i) ∧ sq_k (sq_qp Q t k v w) r i < 3 ∧ sq_v (sq_qp Q t k v w) r i < 3 ∧ sq_w (sq_qp Q t k v w) r i < 4 := by
    intro i hi
    have hq : r * 6 + i ≠ t * 6 + sq_z Q t := by
      by_cases e : r = t
      · rw [e] at hi ⊢; omega
      · omega
    have hc : ¬ (r = t ∧ i = sq_z Q t) := fun z => by rw [z.1] at hi; have := z.2; omega
    have ek : sq_k (sq_qp Q t k v w) r i = sq_k Q r i := if_neg hc
    have ev : sq_v (sq_qp Q t k v w) r i = sq_v Q r i := if_neg hc
    have ew : sq_w (sq_qp Q t k v w) r i = sq_w Q r i := if_neg hc
    rw [ek, ev, ew, pk_un hq, pk_un hq, pk_un hq]
    exact hb.2 i hi
  by_cases e : r = t
  · have ez : sq_z (sq_qp Q t k v w) r = sq_z Q t + 1 := if_pos e
    rw [ez]
    refine ⟨by rw [e]; exact pk_us, fun i hi => ?_⟩
    by_cases ei : i = sq_z Q t
    · have hc : r = t ∧ i = sq_z Q t := ⟨e, ei⟩
      have ek : sq_k (sq_qp Q t k v w) r i = k := if_pos hc
      have ev : sq_v (sq_qp Q t k v w) r i = v := if_pos hc
      have ew : sq_w (sq_qp Q t k v w) r i = w := if_pos hc
      rw [ek, ev, ew, e, ei]
      exact ⟨pk_us, pk_us, pk_us, hk, hv, hw⟩
    · exact old i (by rw [e]; omega)
  · have ez : sq_z (sq_qp Q t k v w) r = sq_z Q r := if_neg e
    rw [ez]
    exact ⟨(pk_un e).trans hb.1, old⟩
theorem sq_append {post : Int32 → St1 → Prop} {u : St1} {Q : sq_Q} {t k v w : Nat} {y1 y2 y3 : Int32} (hP : sq_Pr (sq_wr (sq_fx u)) Q) (ht : t < 4) (hk : k < 3) (hv : v < 3) (hw : w < 4) (e1 : y1 = nI k) (e2 : y2 = nI v) (e3 : y3 = nI w) (h0 : sq_sm4 Q = 6 → post (-2) u) (h1 : sq_sm4 Q < 6 → ∀ u', sq_Pr (sq_wr (sq_fx u')) (sq_qp Q t k v w) → u'.2.2.2.2.1 = 0 → post (nI (sq_z Q t + 1)) u') : wpX_append post u (nI t) y1 y2 y3 := by
  rw [e1, e2, e3]
  have et : u.1 = nI (sq_sm4 Q) := hP.1
  have hs : sq_sm4 Q ≤ 6 := hP.2.1
  have hz : sq_z Q t ≤ sq_sm4 Q := by
    unfold sq_sm4
    rcases sq_t4 ht with e | e | e | e <;> rw [e] <;> omega
  have ez : u.2.2.2.2.2.2.2.1 (nI t).toNatClampNeg = nI (sq_z Q t) := sq_clt (by omega) (hP.2.2 t ht).1
  refine pk_eq (sq_sm4 Q) 6 (fun z => h0 z) (fun z => ⟨pk_in t 4 ht, nm_r (e' := nI (t * 6 + sq_z Q t)) (by rw [ez, sq_6t]) ?_⟩) et rfl
  have hb : t * 6 + sq_z Q t < 24 := by omega
  refine ⟨pk_in _ 24 hb, nm_r (e' := upd u.2.2.2.2.2.2.2.2.1 (t * 6 + sq_z Q t) (nI k)) (by rw [nI_clamp (by omega)]) ?_⟩
  refine ⟨pk_in _ 24 hb, nm_r (e' := upd u.2.2.2.2.2.2.2.2.2.1 (t * 6 + sq_z Q t) (nI v)) (by rw [nI_clamp (by omega)]) ?_⟩
  refine ⟨pk_in _ 24 hb, nm_r (e' := upd u.2.2.2.2.2.2.2.2.2.2.1 (t * 6 + sq_z Q t) (nI w)) (by rw [nI_clamp (by omega)]) ?_⟩
  refine ⟨pk_in t 4 ht, pk_in t 4 ht, nm_r (e' := upd u.2.2.2.2.2.2.2.1 t (nI (sq_z Q t + 1))) (by rw [ez, nI_clamp (by omega), nI_1]) ?_⟩
  refine nm_r (e' := nI (sq_sm4 Q + 1)) (by rw [et, nI_1]) ⟨pk_in t 4 ht, ?_⟩
  have := h1 (by omega) ((nI (sq_sm4 Q + 1)), u.2.1, u.2.2.1, u.2.2.2.1, 0, u.2.2.2.2.2.1, u.2.2.2.2.2.2.1, (upd u.2.2.2.2.2.2.2.1 t (nI (sq_z Q t + 1))), (upd u.2.2.2.2.2.2.2.2.1 (t * 6 + sq_z Q t) (nI k)), (upd u.2.2.2.2.2.2.2.2.2.1 (t * 6 + sq_z Q t) (nI v)), (upd u.2.2.2.2.2.2.2.2.2.2.1 (t * 6 + sq_z Q t) (nI w)), u.2.2.2.2.2.2.2.2.2.2.2.1, u.2.2.2.2.2.2.2.2.2.2.2.2.1, u.2.2.2.2.2.2.2.2.2.2.2.2.2.1, u.2.2.2.2.2.2.2.2.2.2.2.2.2.2.1, u.2.2.2.2.2.2.2.2.2.2.2.2.2.2.2.1, u.2.2.2.2.2.2.2.2.2.2.2.2.2.2.2.2.1, u.2.2.2.2.2.2.2.2.2.2.2.2.2.2.2.2.2.1, u.2.2.2.2.2.2.2.2.2.2.2.2.2.2.2.2.2.2.1, u.2.2.2.2.2.2.2.2.2.2.2.2.2.2.2.2.2.2.2.1, u.2.2.2.2.2.2.2.2.2.2.2.2.2.2.2.2.2.2.2.2.1, u.2.2.2.2.2.2.2.2.2.2.2.2.2.2.2.2.2.2.2.2.2.1, u.2.2.2.2.2.2.2.2.2.2.2.2.2.2.2.2.2.2.2.2.2.2) (sq_Pr_put hP ht (by omega) hk hv hw) rfl
  have er : upd u.2.2.2.2.2.2.2.1 t (nI (sq_z Q t + 1)) (nI t).toNatClampNeg = nI (sq_z Q t + 1) := by rw [nI_clamp (by omega), pk_us]
  rw [er]
  exact this
theorem sq_badThread {post : Int32 → Prop} {u : St1} {t : Nat} (ht : t < 4) (h : post 0) : wpX_badThread post u (nI t) :=
  br_f (nI_pos (by omega)) (br_t (nI_lt (b := 4) ht (by decide)) h)
theorem sq_store {post : Int32 → St1 → Prop} {u : St1} {Q : sq_Q} {t v w : Nat} (hP : sq_Pr (sq_wr (sq_fx u)) Q) (ht : t < 4) (hv : v < 3) (hw : w < 4) (hw1 : 1 ≤ w) (h0 : sq_sm4 Q = 6 → post (-2) u) (h1 : sq_sm4 Q < 6 → ∀ u', sq_Pr (sq_wr (sq_fx u')) (sq_qp Q t 0 v w) → u'.2.2.2.2.1 = 0 → post (nI (sq_z Q t + 1)) u') : wpX_store post u (nI t) (nI v) (nI w) := by
  unfold wpX_store
  refine sq_badThread ht (br_t rfl (br_f (nI_pos (by omega)) (br_f (nI_ge (b := 3) hv (by decide)) (br_f (nI_nlt (b := 1) hw1 (by omega)) (br_t (nI_le (b := 3) (by omega) (by decide)) ?_)))))
  exact sq_append (k := 0) hP ht (by omega) hv hw rfl rfl rfl h0 h1
theorem sq_load {post : Int32 → St1 → Prop} {u : St1} {Q : sq_Q} {t v : Nat} (hP : sq_Pr (sq_wr (sq_fx u)) Q) (ht : t < 4) (hv : v < 3) (h0 : sq_sm4 Q = 6 → post (-2) u) (h1 : sq_sm4 Q < 6 → ∀ u', sq_Pr (sq_wr (sq_fx u')) (sq_qp Q t 1 v 0) → u'.2.2.2.2.1 = 0 → post (nI (sq_z Q t + 1)) u') : wpX_load post u (nI t) (nI v) := by
  unfold wpX_load
  refine sq_badThread ht (br_t rfl (br_f (nI_pos (by omega)) (br_t (nI_lt (b := 3) hv (by decide)) ?_)))
  exact sq_append (k := 1) (w := 0) hP ht (by omega) hv (by omega) rfl rfl rfl h0 h1
theorem sq_fence {post : Int32 → St1 → Prop} {u : St1} {Q : sq_Q} {t : Nat} (hP : sq_Pr (sq_wr (sq_fx u)) Q) (ht : t < 4) (h0 : sq_sm4 Q = 6 → post (-2) u) (h1 : sq_sm4 Q < 6 → ∀ u', sq_Pr (sq_wr (sq_fx u')) (sq_qp Q t 2 0 0) → u'.2.2.2.2.1 = 0 → post (nI (sq_z Q t + 1)) u') : wpX_fence post u (nI t) := by
  unfold wpX_fence
  refine sq_badThread ht (br_t rfl ?_)
  exact sq_append (k := 2) (v := 0) (w := 0) hP ht (by omega) (by omega) (by omega) rfl rfl rfl h0 h1
theorem sq_Pr_drop {y : Int32 × (Nat → Int32) × (Nat → Int32) × (Nat → Int32) × (Nat → Int32)} {Q : sq_Q} {t : Nat} (h : sq_Pr y Q) (ht : t < 4) (hz : 1 ≤ sq_z Q t) : sq_Pr (nI (sq_sm4 Q - 1), upd y.2.1 t (nI (sq_z Q t - 1)), y.2.2.1, y.2.2.2.1, y.2.2.2.2) (sq_qd Q t) := by
  have hs := h.2.1
  have hsum : sq_z (sq_qd Q t) 0 + sq_z (sq_qd Q t) 1 + sq_z (sq_qd Q t) 2 + sq_z (sq_qd Q t) 3 = sq_sm4 Q - 1 := by
    have := sq_sum_up (z := sq_z Q) (a := sq_z Q t - 1) ht
    show (if 0 = t then sq_z Q t - 1 else sq_z Q 0) + (if 1 = t then sq_z Q t - 1 else sq_z Q 1) + (if 2 = t then sq_z Q t - 1 else sq_z Q 2) + (if 3 = t then sq_z Q t - 1 else sq_z Q 3) = sq_z Q 0 + sq_z Q 1 + sq_z Q 2 + sq_z Q 3 - 1
    omega
  have hsm : sq_sm4 Q ≤ 6 := hs
  refine ⟨by rw [hsum], by rw [hsum]; omega, fun r hr => ?_⟩
  have hb := h.2.2 r hr
  by_cases e : r = t
  · have ez : sq_z (sq_qd Q t) r = sq_z Q t - 1 := if_pos e
    rw [ez]
    exact ⟨by rw [e]; exact pk_us, fun i hi => hb.2 i (by rw [e]; omega)⟩
  · have ez : sq_z (sq_qd Q t) r = sq_z Q r := if_neg e
    rw [ez]
    exact ⟨(pk_un e).trans hb.1, hb.2⟩
def sq_SI (u : St1) : Prop := (∃ Q, sq_Pr (sq_wr (sq_fx u)) Q) ∧ u.2.2.2.2.1 = 0
theorem sq_drop {post : Int32 → St1 → Prop} {u : St1} {t : Nat} {y : Int32} (hS : sq_SI u) (ht : t < 4) (hy : y = nI t) (h : ∀ r u', sq_SI u' → post r u') : wpX_drop post u y := by
  rw [hy]
  unfold wpX_drop
  obtain ⟨Q, hP⟩ := hS.1
  have hz := sq_z6 hP ht
  have et : u.1 = nI (sq_sm4 Q) := hP.1
  have hzs : sq_z Q t ≤ sq_sm4 Q := by
    unfold sq_sm4
    rcases sq_t4 ht with e | e | e | e <;> rw [e] <;> omega
  have ez : u.2.2.2.2.2.2.2.1 (nI t).toNatClampNeg = nI (sq_z Q t) := sq_clt (by omega) (hP.2.2 t ht).1
  refine sq_badThread ht (br_t rfl ⟨pk_in t 4 ht, pk_eq (sq_z Q t) 0 (fun _ => h _ u hS) (fun z => ⟨pk_in t 4 ht, pk_in t 4 ht, nm_r (e' := upd u.2.2.2.2.2.2.2.1 t (nI (sq_z Q t - 1))) ?_ (nm_r (e' := nI (sq_sm4 Q - 1)) ?_ ⟨pk_in t 4 ht, h _ _ ⟨⟨_, sq_Pr_drop hP ht (by omega)⟩, rfl⟩⟩)⟩) ez rfl⟩)
  · rw [ez, nI_clamp (by omega)]
    congr 1
    exact pk_sub (a := sq_z Q t) (b := 1) (by omega)
  · rw [et]
    exact pk_sub (a := sq_sm4 Q) (b := 1) (by omega)
theorem sq_clear {post : St1 → Prop} {u : St1} (h : ∀ u', sq_SI u' → post u') : wpX_clear post u := by
  refine pk_loop (fun k i a => wX_clear_2 post u.1 u.2.1 u.2.2.1 u.2.2.2.1 u.2.2.2.2.1 u.2.2.2.2.2.1 u.2.2.2.2.2.2.1 k (nI i) a u.2.2.2.2.2.2.2.2.1 u.2.2.2.2.2.2.2.2.2.1 u.2.2.2.2.2.2.2.2.2.2.1 u.2.2.2.2.2.2.2.2.2.2.2.1 u.2.2.2.2.2.2.2.2.2.2.2.2.1 u.2.2.2.2.2.2.2.2.2.2.2.2.2.1 u.2.2.2.2.2.2.2.2.2.2.2.2.2.2.1 u.2.2.2.2.2.2.2.2.2.2.2.2.2.2.2.1 u.2.2.2.2.2.2.2.2.2.2.2.2.2.2.2.2.1 u.2.2.2.2.2.2.2.2.2.2.2.2.2.2.2.2.2.1 u.2.2.2.2.2.2.2.2.2.2.2.2.2.2.2.2.2.2.1 u.2.2.2.2.2.2.2.2.2.2.2.2.2.2.2.2.2.2.2.1 u.2.2.2.2.2.2.2.2.2.2.2.2.2.2.2.2.2.2.2.2.1 u.2.2.2.2.2.2.2.2.2.2.2.2.2.2.2.2.2.2.2.2.2.1 u.2.2.2.2.2.2.2.2.2.2.2.2.2.2.2.2.2.2.2.2.2.2) (fun i a => ∀ j, j < i → a j = nI 0) 4 0 u.2.2.2.2.2.2.2.1 (by omega) (fun j hj => absurd hj (by omega)) ?_ ?_
  · intro k a ha
    refine pk_le 4 4 (fun _ => h _ ⟨⟨(fun _ => 0, fun _ _ => 0, fun _ _ => 0, fun _ _ => 0), rfl, by decide, fun t ht => ⟨ha t ht, fun i hi => absurd hi (Nat.not_lt_zero _)⟩⟩, rfl⟩) (fun z => absurd z (by omega))
  · intro k i a hi ha hw
    refine pk_le 4 i (fun z => absurd z (by omega)) (fun _ => ⟨pk_in i 4 hi, nm_e (nm_r (nI_1 i) (hw _ (fun j hj => ?_)))⟩)
    rw [nI_clamp (by omega)]
    by_cases e : j = i
    · rw [e, pk_us]; rfl
    · rw [pk_un e]; exact ha j (by omega)
/-! one turn -/
theorem sq_val (x : Int32) : ∃ w, 1 ≤ w ∧ w < 4 ∧ (1 : Int32) + (((x >>> ((7 : Int32) &&& 31)) &&& 3) - ((x >>> ((7 : Int32) &&& 31)) &&& 3) / 3 * 3) = nI w := by
  obtain ⟨j, hj, e⟩ := pk_andE (x >>> ((7 : Int32) &&& 31)) (m := 3) 2 (by decide)
  have hj' : j < 4 := hj
  refine ⟨1 + j % 3, by omega, by omega, ?_⟩
  rw [e]
  have := pk_rem (a := j) (d := 3) (by omega) (by omega) (by omega)
  show nI 1 + (nI j - nI j / nI 3 * nI 3) = _
  rw [this, nI_add]
theorem sq_thr (x : Int32) (P : Int32 → Prop) (h : ∀ t, t < 4 → P (nI t)) : (((x &&& 3) = 3 → P ((x >>> ((2 : Int32) &&& 31)) &&& 3)) ∧ (¬ (x &&& 3) = 3 → P (x &&& 1))) := by
  refine ⟨fun _ => ?_, fun _ => ?_⟩
  · obtain ⟨j, hj, e⟩ := pk_andE (x >>> ((2 : Int32) &&& 31)) (m := 3) 2 (by decide)
    rw [e]; exact h j hj
  · obtain ⟨j, hj, e⟩ := pk_andE x (m := 1) 1 (by decide)
    rw [e]; exact h j (Nat.lt_of_lt_of_le hj (by decide))
theorem sq_var (x : Int32) (P : Int32 → Prop) (h : ∀ t, t < 3 → P (nI t)) : ((((x >>> ((4 : Int32) &&& 31)) &&& 7) = 7 → P 2) ∧ (¬ ((x >>> ((4 : Int32) &&& 31)) &&& 7) = 7 → P ((x >>> ((4 : Int32) &&& 31)) &&& 1))) := by
  refine ⟨fun _ => h 2 (by omega), fun _ => ?_⟩
  obtain ⟨j, hj, e⟩ := pk_andE (x >>> ((4 : Int32) &&& 31)) (m := 1) 1 (by decide)
  rw [e]; exact h j (Nat.lt_of_lt_of_le hj (by decide))
theorem sq_t45 {post : Int32 → St1 → Prop} {u : St1} {x2 x3 : Int32} {t v : Nat} (hS : sq_SI u) (ht : t < 4) (hv : v < 3) (h : ∀ r u', sq_SI u' → post r u') : wL_turn_45 post x2 x3 (nI t) (nI v) u.1 u.2.1 u.2.2.1 u.2.2.2.1 u.2.2.2.2.1 u.2.2.2.2.2.1 u.2.2.2.2.2.2.1 u.2.2.2.2.2.2.2.1 u.2.2.2.2.2.2.2.2.1 u.2.2.2.2.2.2.2.2.2.1 u.2.2.2.2.2.2.2.2.2.2.1 u.2.2.2.2.2.2.2.2.2.2.2.1 u.2.2.2.2.2.2.2.2.2.2.2.2.1 u.2.2.2.2.2.2.2.2.2.2.2.2.2.1 u.2.2.2.2.2.2.2.2.2.2.2.2.2.2.1 u.2.2.2.2.2.2.2.2.2.2.2.2.2.2.2.1 u.2.2.2.2.2.2.2.2.2.2.2.2.2.2.2.2.1 u.2.2.2.2.2.2.2.2.2.2.2.2.2.2.2.2.2.1 u.2.2.2.2.2.2.2.2.2.2.2.2.2.2.2.2.2.2.1 u.2.2.2.2.2.2.2.2.2.2.2.2.2.2.2.2.2.2.2.1 u.2.2.2.2.2.2.2.2.2.2.2.2.2.2.2.2.2.2.2.2.1 u.2.2.2.2.2.2.2.2.2.2.2.2.2.2.2.2.2.2.2.2.2.1 u.2.2.2.2.2.2.2.2.2.2.2.2.2.2.2.2.2.2.2.2.2.2 := by
  obtain ⟨Q, hP⟩ := hS.1
  refine br_c (fun _ => br_c (fun _ => br_c (fun _ => br_c (fun _ => br_c (fun _ => ?_) (fun _ => h 0 u hS)) (fun _ => ?_)) (fun _ => ?_)) (fun _ => ?_)) (fun _ => ⟨by decide, ?_⟩)
  · exact sq_clear (fun u' g => h 0 u' g)
  · obtain ⟨j, hj, e⟩ := pk_andE x2 (m := 3) 2 (by decide)
    exact sq_drop (u := u) hS hj e (fun r u' g => h r u' g)
  · exact sq_fence (u := u) hP ht (fun _ => h _ u hS) (fun _ u' g1 g2 => h _ u' ⟨⟨_, g1⟩, g2⟩)
  · exact sq_load (u := u) hP ht hv (fun _ => h _ u hS) (fun _ u' g1 g2 => h _ u' ⟨⟨_, g1⟩, g2⟩)
  · obtain ⟨w, w1, w2, e⟩ := sq_val x2
    rw [e]
    exact sq_store (u := u) hP ht hv w2 w1 (fun _ => h _ u hS) (fun _ u' g1 g2 => h _ u' ⟨⟨_, g1⟩, g2⟩)
theorem sq_turn {post : Int32 → St1 → Prop} {u : St1} {p1 p2 : Int32} (hS : sq_SI u) (h : ∀ r u', sq_SI u' → post r u') : wpL_turn post u p1 p2 := by
  refine nm_e ?_
  refine sq_thr p2 (fun z => wL_turn_23 post p2 (p1 &&& 31) z u.1 u.2.1 u.2.2.1 u.2.2.2.1 u.2.2.2.2.1 u.2.2.2.2.2.1 u.2.2.2.2.2.2.1 u.2.2.2.2.2.2.2.1 u.2.2.2.2.2.2.2.2.1 u.2.2.2.2.2.2.2.2.2.1 u.2.2.2.2.2.2.2.2.2.2.1 u.2.2.2.2.2.2.2.2.2.2.2.1 u.2.2.2.2.2.2.2.2.2.2.2.2.1 u.2.2.2.2.2.2.2.2.2.2.2.2.2.1 u.2.2.2.2.2.2.2.2.2.2.2.2.2.2.1 u.2.2.2.2.2.2.2.2.2.2.2.2.2.2.2.1 u.2.2.2.2.2.2.2.2.2.2.2.2.2.2.2.2.1 u.2.2.2.2.2.2.2.2.2.2.2.2.2.2.2.2.2.1 u.2.2.2.2.2.2.2.2.2.2.2.2.2.2.2.2.2.2.1 u.2.2.2.2.2.2.2.2.2.2.2.2.2.2.2.2.2.2.2.1 u.2.2.2.2.2.2.2.2.2.2.2.2.2.2.2.2.2.2.2.2.1 u.2.2.2.2.2.2.2.2.2.2.2.2.2.2.2.2.2.2.2.2.2.1 u.2.2.2.2.2.2.2.2.2.2.2.2.2.2.2.2.2.2.2.2.2.2) (fun t ht => ?_)
  exact sq_var p2 (fun z => wL_turn_45 post p2 (p1 &&& 31) (nI t) z u.1 u.2.1 u.2.2.1 u.2.2.2.1 u.2.2.2.2.1 u.2.2.2.2.2.1 u.2.2.2.2.2.2.1 u.2.2.2.2.2.2.2.1 u.2.2.2.2.2.2.2.2.1 u.2.2.2.2.2.2.2.2.2.1 u.2.2.2.2.2.2.2.2.2.2.1 u.2.2.2.2.2.2.2.2.2.2.2.1 u.2.2.2.2.2.2.2.2.2.2.2.2.1 u.2.2.2.2.2.2.2.2.2.2.2.2.2.1 u.2.2.2.2.2.2.2.2.2.2.2.2.2.2.1 u.2.2.2.2.2.2.2.2.2.2.2.2.2.2.2.1 u.2.2.2.2.2.2.2.2.2.2.2.2.2.2.2.2.1 u.2.2.2.2.2.2.2.2.2.2.2.2.2.2.2.2.2.1 u.2.2.2.2.2.2.2.2.2.2.2.2.2.2.2.2.2.2.1 u.2.2.2.2.2.2.2.2.2.2.2.2.2.2.2.2.2.2.2.1 u.2.2.2.2.2.2.2.2.2.2.2.2.2.2.2.2.2.2.2.2.1 u.2.2.2.2.2.2.2.2.2.2.2.2.2.2.2.2.2.2.2.2.2.1 u.2.2.2.2.2.2.2.2.2.2.2.2.2.2.2.2.2.2.2.2.2.2) (fun v hv => sq_t45 hS ht hv h)
end
section
/-! the law's own loop -/
def sq_Rb (Q : sq_Q) : Prop := ∀ t, t < 4 → ∀ i, i < sq_z Q t → sq_k Q t i = 0 → i + 1 < sq_z Q t ∧ sq_k Q t (i + 1) = 2
theorem sq_Rb_Rob {Q : sq_Q} (h : sq_Rb Q) : sq_Rob (sq_pl Q) := fun t ht i hi hk => (h t ht i (by have : i + 1 < sq_z Q t := hi; omega) hk).2
theorem sq_Rb_ld {Q : sq_Q} {t v : Nat} (h : sq_Rb Q) : sq_Rb (sq_qp Q t 1 v 0) := by
  intro r hr i hi hk
  by_cases e : r = t ∧ i = sq_z Q t
  · have ek : sq_k (sq_qp Q t 1 v 0) r i = 1 := if_pos e
    rw [ek] at hk
    exact absurd hk (by decide)
  · have ek : sq_k (sq_qp Q t 1 v 0) r i = sq_k Q r i := if_neg e
    rw [ek] at hk
    have hi' : i < sq_z Q r := by
      by_cases er : r = t
      · have ez : sq_z (sq_qp Q t 1 v 0) r = sq_z Q t + 1 := if_pos er
        rw [ez] at hi
        have : i ≠ sq_z Q t := fun z => e ⟨er, z⟩
        rw [er]; omega
      · have ez : sq_z (sq_qp Q t 1 v 0) r = sq_z Q r := if_neg er
        rw [ez] at hi; exact hi
    have hb := h r hr i hi' hk
    have hz : sq_z Q r ≤ sq_z (sq_qp Q t 1 v 0) r := by
      by_cases er : r = t
      · have ez : sq_z (sq_qp Q t 1 v 0) r = sq_z Q t + 1 := if_pos er
        rw [ez, er]; omega
      · have ez : sq_z (sq_qp Q t 1 v 0) r = sq_z Q r := if_neg er
        rw [ez]; omega
    have e2 : sq_k (sq_qp Q t 1 v 0) r (i + 1) = sq_k Q r (i + 1) := if_neg (fun z => by have := z.2; rw [← z.1] at this; omega)
    rw [e2]
    exact ⟨by omega, hb.2⟩
theorem sq_Rb_st {Q : sq_Q} {t v w : Nat} (h : sq_Rb Q) : sq_Rb (sq_qp (sq_qp Q t 0 v w) t 2 0 0) := by
  intro r hr i hi hk
  have z1 : ∀ r, sq_z (sq_qp Q t 0 v w) r = if r = t then sq_z Q t + 1 else sq_z Q r := fun r => rfl
  have z2 : ∀ r, sq_z (sq_qp (sq_qp Q t 0 v w) t 2 0 0) r = if r = t then sq_z Q t + 1 + 1 else sq_z Q r := by
    intro r
    show (if r = t then (if t = t then sq_z Q t + 1 else sq_z Q t) + 1 else (if r = t then sq_z Q t + 1 else sq_z Q r)) = _
    by_cases er : r = t
    · rw [if_pos er, if_pos er, if_pos rfl]
    · rw [if_neg er, if_neg er, if_neg er]
  have k2 : ∀ r i, sq_k (sq_qp (sq_qp Q t 0 v w) t 2 0 0) r i = if r = t ∧ i = sq_z Q t + 1 then 2 else if r = t ∧ i = sq_z Q t then 0 else sq_k Q r i := by
    intro r i
    show (if r = t ∧ i = (if t = t then sq_z Q t + 1 else sq_z Q t) then 2 else (if r = t ∧ i = sq_z Q t then 0 else sq_k Q r i)) = _
    rw [if_pos rfl]
  rw [z2] at hi ⊢
  rw [k2] at hk ⊢
  by_cases er : r = t
  · rw [if_pos er] at hi ⊢
    by_cases e1 : i = sq_z Q t + 1
    · rw [if_pos ⟨er, e1⟩] at hk
      exact absurd hk (by decide)
    · by_cases e2 : i = sq_z Q t
      · rw [e2]
        exact ⟨by omega, by rw [if_pos ⟨er, rfl⟩]⟩
      · rw [if_neg (fun z => e1 z.2), if_neg (fun z => e2 z.2)] at hk
        have hb := h r hr i (by rw [er]; omega) hk
        rw [er] at hb
        rw [if_neg (fun z => by have := z.2; omega), if_neg (fun z => by have := z.2; omega), er]
        exact ⟨by omega, hb.2⟩
  · rw [if_neg er] at hi ⊢
    rw [if_neg (fun z => er z.1), if_neg (fun z => er z.1)] at hk ⊢
    exact h r hr i hi hk
def sq_UI (u : St1) : Prop := (∃ Q, sq_Pr (sq_wr (sq_fx u)) Q ∧ sq_Rb Q) ∧ u.2.2.2.2.1 = 0
theorem sq_l207 {post : Int32 → Prop} {L kc ks k a b i : Nat} {xs : Nat → Int32} {s u : St1} {z : Int32} (ha : a < 2 ^ 31) (hb : b < 2 ^ 31) (hz : 0 ≤ z ∨ z = -2) (h : wL_law_21 post L xs 0 kc ks k (nI (i + 2)) s.1 s.2.1 s.2.2.1 s.2.2.2.1 s.2.2.2.2.1 s.2.2.2.2.2.1 s.2.2.2.2.2.2.1 s.2.2.2.2.2.2.2.1 s.2.2.2.2.2.2.2.2.1 s.2.2.2.2.2.2.2.2.2.1 s.2.2.2.2.2.2.2.2.2.2.1 s.2.2.2.2.2.2.2.2.2.2.2.1 s.2.2.2.2.2.2.2.2.2.2.2.2.1 s.2.2.2.2.2.2.2.2.2.2.2.2.2.1 s.2.2.2.2.2.2.2.2.2.2.2.2.2.2.1 s.2.2.2.2.2.2.2.2.2.2.2.2.2.2.2.1 s.2.2.2.2.2.2.2.2.2.2.2.2.2.2.2.2.1 s.2.2.2.2.2.2.2.2.2.2.2.2.2.2.2.2.2.1 s.2.2.2.2.2.2.2.2.2.2.2.2.2.2.2.2.2.2.1 s.2.2.2.2.2.2.2.2.2.2.2.2.2.2.2.2.2.2.2.1 s.2.2.2.2.2.2.2.2.2.2.2.2.2.2.2.2.2.2.2.2.1 s.2.2.2.2.2.2.2.2.2.2.2.2.2.2.2.2.2.2.2.2.2.1 s.2.2.2.2.2.2.2.2.2.2.2.2.2.2.2.2.2.2.2.2.2.2 u.1 u.2.1 u.2.2.1 u.2.2.2.1 u.2.2.2.2.1 u.2.2.2.2.2.1 u.2.2.2.2.2.2.1 u.2.2.2.2.2.2.2.1 u.2.2.2.2.2.2.2.2.1 u.2.2.2.2.2.2.2.2.2.1 u.2.2.2.2.2.2.2.2.2.2.1 u.2.2.2.2.2.2.2.2.2.2.2.1 u.2.2.2.2.2.2.2.2.2.2.2.2.1 u.2.2.2.2.2.2.2.2.2.2.2.2.2.1 u.2.2.2.2.2.2.2.2.2.2.2.2.2.2.1 u.2.2.2.2.2.2.2.2.2.2.2.2.2.2.2.1 u.2.2.2.2.2.2.2.2.2.2.2.2.2.2.2.2.1 u.2.2.2.2.2.2.2.2.2.2.2.2.2.2.2.2.2.1 u.2.2.2.2.2.2.2.2.2.2.2.2.2.2.2.2.2.2.1 u.2.2.2.2.2.2.2.2.2.2.2.2.2.2.2.2.2.2.2.1 u.2.2.2.2.2.2.2.2.2.2.2.2.2.2.2.2.2.2.2.2.1 u.2.2.2.2.2.2.2.2.2.2.2.2.2.2.2.2.2.2.2.2.2.1 u.2.2.2.2.2.2.2.2.2.2.2.2.2.2.2.2.2.2.2.2.2.2) : wL_law_207 post L xs (wL_law_21 post L xs 0 kc ks k) 0 (nI i) (nI a) (nI b) z kc ks s.1 s.2.1 s.2.2.1 s.2.2.2.1 s.2.2.2.2.1 s.2.2.2.2.2.1 s.2.2.2.2.2.2.1 s.2.2.2.2.2.2.2.1 s.2.2.2.2.2.2.2.2.1 s.2.2.2.2.2.2.2.2.2.1 s.2.2.2.2.2.2.2.2.2.2.1 s.2.2.2.2.2.2.2.2.2.2.2.1 s.2.2.2.2.2.2.2.2.2.2.2.2.1 s.2.2.2.2.2.2.2.2.2.2.2.2.2.1 s.2.2.2.2.2.2.2.2.2.2.2.2.2.2.1 s.2.2.2.2.2.2.2.2.2.2.2.2.2.2.2.1 s.2.2.2.2.2.2.2.2.2.2.2.2.2.2.2.2.1 s.2.2.2.2.2.2.2.2.2.2.2.2.2.2.2.2.2.1 s.2.2.2.2.2.2.2.2.2.2.2.2.2.2.2.2.2.2.1 s.2.2.2.2.2.2.2.2.2.2.2.2.2.2.2.2.2.2.2.1 s.2.2.2.2.2.2.2.2.2.2.2.2.2.2.2.2.2.2.2.2.1 s.2.2.2.2.2.2.2.2.2.2.2.2.2.2.2.2.2.2.2.2.2.1 s.2.2.2.2.2.2.2.2.2.2.2.2.2.2.2.2.2.2.2.2.2.2 u.1 u.2.1 u.2.2.1 u.2.2.2.1 u.2.2.2.2.1 u.2.2.2.2.2.1 u.2.2.2.2.2.2.1 u.2.2.2.2.2.2.2.1 u.2.2.2.2.2.2.2.2.1 u.2.2.2.2.2.2.2.2.2.1 u.2.2.2.2.2.2.2.2.2.2.1 u.2.2.2.2.2.2.2.2.2.2.2.1 u.2.2.2.2.2.2.2.2.2.2.2.2.1 u.2.2.2.2.2.2.2.2.2.2.2.2.2.1 u.2.2.2.2.2.2.2.2.2.2.2.2.2.2.1 u.2.2.2.2.2.2.2.2.2.2.2.2.2.2.2.1 u.2.2.2.2.2.2.2.2.2.2.2.2.2.2.2.2.1 u.2.2.2.2.2.2.2.2.2.2.2.2.2.2.2.2.2.1 u.2.2.2.2.2.2.2.2.2.2.2.2.2.2.2.2.2.2.1 u.2.2.2.2.2.2.2.2.2.2.2.2.2.2.2.2.2.2.2.1 u.2.2.2.2.2.2.2.2.2.2.2.2.2.2.2.2.2.2.2.2.1 u.2.2.2.2.2.2.2.2.2.2.2.2.2.2.2.2.2.2.2.2.2.1 u.2.2.2.2.2.2.2.2.2.2.2.2.2.2.2.2.2.2.2.2.2.2 := by
  have e2 : nI i + 2 = nI (i + 2) := by
    show nI i + nI 2 = _
    rw [nI_add]
  refine br_f (nI_pos ha) (br_f (nI_pos hb) ?_)
  rcases hz with g | g
  · exact br_t g (nm_r e2 h)
  · exact br_f (by rw [g]; decide) (br_t g (nm_r e2 h))
theorem sq_l179 {post : Int32 → Prop} {L kc ks k a b i t v : Nat} {xs : Nat → Int32} {s u : St1} {x5 : Int32} (hU : sq_UI u) (ht : t < 4) (hv : v < 3) (ha : a < 2 ^ 31) (hb : b < 2 ^ 31) (h : ∀ u', sq_UI u' → wL_law_21 post L xs 0 kc ks k (nI (i + 2)) s.1 s.2.1 s.2.2.1 s.2.2.2.1 s.2.2.2.2.1 s.2.2.2.2.2.1 s.2.2.2.2.2.2.1 s.2.2.2.2.2.2.2.1 s.2.2.2.2.2.2.2.2.1 s.2.2.2.2.2.2.2.2.2.1 s.2.2.2.2.2.2.2.2.2.2.1 s.2.2.2.2.2.2.2.2.2.2.2.1 s.2.2.2.2.2.2.2.2.2.2.2.2.1 s.2.2.2.2.2.2.2.2.2.2.2.2.2.1 s.2.2.2.2.2.2.2.2.2.2.2.2.2.2.1 s.2.2.2.2.2.2.2.2.2.2.2.2.2.2.2.1 s.2.2.2.2.2.2.2.2.2.2.2.2.2.2.2.2.1 s.2.2.2.2.2.2.2.2.2.2.2.2.2.2.2.2.2.1 s.2.2.2.2.2.2.2.2.2.2.2.2.2.2.2.2.2.2.1 s.2.2.2.2.2.2.2.2.2.2.2.2.2.2.2.2.2.2.2.1 s.2.2.2.2.2.2.2.2.2.2.2.2.2.2.2.2.2.2.2.2.1 s.2.2.2.2.2.2.2.2.2.2.2.2.2.2.2.2.2.2.2.2.2.1 s.2.2.2.2.2.2.2.2.2.2.2.2.2.2.2.2.2.2.2.2.2.2 u'.1 u'.2.1 u'.2.2.1 u'.2.2.2.1 u'.2.2.2.2.1 u'.2.2.2.2.2.1 u'.2.2.2.2.2.2.1 u'.2.2.2.2.2.2.2.1 u'.2.2.2.2.2.2.2.2.1 u'.2.2.2.2.2.2.2.2.2.1 u'.2.2.2.2.2.2.2.2.2.2.1 u'.2.2.2.2.2.2.2.2.2.2.2.1 u'.2.2.2.2.2.2.2.2.2.2.2.2.1 u'.2.2.2.2.2.2.2.2.2.2.2.2.2.1 u'.2.2.2.2.2.2.2.2.2.2.2.2.2.2.1 u'.2.2.2.2.2.2.2.2.2.2.2.2.2.2.2.1 u'.2.2.2.2.2.2.2.2.2.2.2.2.2.2.2.2.1 u'.2.2.2.2.2.2.2.2.2.2.2.2.2.2.2.2.2.1 u'.2.2.2.2.2.2.2.2.2.2.2.2.2.2.2.2.2.2.1 u'.2.2.2.2.2.2.2.2.2.2.2.2.2.2.2.2.2.2.2.1 u'.2.2.2.2.2.2.2.2.2.2.2.2.2.2.2.2.2.2.2.2.1 u'.2.2.2.2.2.2.2.2.2.2.2.2.2.2.2.2.2.2.2.2.2.1 u'.2.2.2.2.2.2.2.2.2.2.2.2.2.2.2.2.2.2.2.2.2.2) : wL_law_179 post L xs (wL_law_21 post L xs 0 kc ks k) 0 (nI i) x5 (nI t) (nI v) (nI a) (nI b) kc ks s.1 s.2.1 s.2.2.1 s.2.2.2.1 s.2.2.2.2.1 s.2.2.2.2.2.1 s.2.2.2.2.2.2.1 s.2.2.2.2.2.2.2.1 s.2.2.2.2.2.2.2.2.1 s.2.2.2.2.2.2.2.2.2.1 s.2.2.2.2.2.2.2.2.2.2.1 s.2.2.2.2.2.2.2.2.2.2.2.1 s.2.2.2.2.2.2.2.2.2.2.2.2.1 s.2.2.2.2.2.2.2.2.2.2.2.2.2.1 s.2.2.2.2.2.2.2.2.2.2.2.2.2.2.1 s.2.2.2.2.2.2.2.2.2.2.2.2.2.2.2.1 s.2.2.2.2.2.2.2.2.2.2.2.2.2.2.2.2.1 s.2.2.2.2.2.2.2.2.2.2.2.2.2.2.2.2.2.1 s.2.2.2.2.2.2.2.2.2.2.2.2.2.2.2.2.2.2.1 s.2.2.2.2.2.2.2.2.2.2.2.2.2.2.2.2.2.2.2.1 s.2.2.2.2.2.2.2.2.2.2.2.2.2.2.2.2.2.2.2.2.1 s.2.2.2.2.2.2.2.2.2.2.2.2.2.2.2.2.2.2.2.2.2.1 s.2.2.2.2.2.2.2.2.2.2.2.2.2.2.2.2.2.2.2.2.2.2 u.1 u.2.1 u.2.2.1 u.2.2.2.1 u.2.2.2.2.1 u.2.2.2.2.2.1 u.2.2.2.2.2.2.1 u.2.2.2.2.2.2.2.1 u.2.2.2.2.2.2.2.2.1 u.2.2.2.2.2.2.2.2.2.1 u.2.2.2.2.2.2.2.2.2.2.1 u.2.2.2.2.2.2.2.2.2.2.2.1 u.2.2.2.2.2.2.2.2.2.2.2.2.1 u.2.2.2.2.2.2.2.2.2.2.2.2.2.1 u.2.2.2.2.2.2.2.2.2.2.2.2.2.2.1 u.2.2.2.2.2.2.2.2.2.2.2.2.2.2.2.1 u.2.2.2.2.2.2.2.2.2.2.2.2.2.2.2.2.1 u.2.2.2.2.2.2.2.2.2.2.2.2.2.2.2.2.2.1 u.2.2.2.2.2.2.2.2.2.2.2.2.2.2.2.2.2.2.1 u.2.2.2.2.2.2.2.2.2.2.2.2.2.2.2.2.2.2.2.1 u.2.2.2.2.2.2.2.2.2.2.2.2.2.2.2.2.2.2.2.2.1 u.2.2.2.2.2.2.2.2.2.2.2.2.2.2.2.2.2.2.2.2.2.1 u.2.2.2.2.2.2.2.2.2.2.2.2.2.2.2.2.2.2.2.2.2.2 := by
  have h0 : wL_law_206 post L xs (wL_law_21 post L xs 0 kc ks k) 0 (nI i) (nI a) (nI b) kc ks s.1 s.2.1 s.2.2.1 s.2.2.2.1 s.2.2.2.2.1 s.2.2.2.2.2.1 s.2.2.2.2.2.2.1 s.2.2.2.2.2.2.2.1 s.2.2.2.2.2.2.2.2.1 s.2.2.2.2.2.2.2.2.2.1 s.2.2.2.2.2.2.2.2.2.2.1 s.2.2.2.2.2.2.2.2.2.2.2.1 s.2.2.2.2.2.2.2.2.2.2.2.2.1 s.2.2.2.2.2.2.2.2.2.2.2.2.2.1 s.2.2.2.2.2.2.2.2.2.2.2.2.2.2.1 s.2.2.2.2.2.2.2.2.2.2.2.2.2.2.2.1 s.2.2.2.2.2.2.2.2.2.2.2.2.2.2.2.2.1 s.2.2.2.2.2.2.2.2.2.2.2.2.2.2.2.2.2.1 s.2.2.2.2.2.2.2.2.2.2.2.2.2.2.2.2.2.2.1 s.2.2.2.2.2.2.2.2.2.2.2.2.2.2.2.2.2.2.2.1 s.2.2.2.2.2.2.2.2.2.2.2.2.2.2.2.2.2.2.2.2.1 s.2.2.2.2.2.2.2.2.2.2.2.2.2.2.2.2.2.2.2.2.2.1 s.2.2.2.2.2.2.2.2.2.2.2.2.2.2.2.2.2.2.2.2.2.2 u.1 u.2.1 u.2.2.1 u.2.2.2.1 u.2.2.2.2.1 u.2.2.2.2.2.1 u.2.2.2.2.2.2.1 u.2.2.2.2.2.2.2.1 u.2.2.2.2.2.2.2.2.1 u.2.2.2.2.2.2.2.2.2.1 u.2.2.2.2.2.2.2.2.2.2.1 u.2.2.2.2.2.2.2.2.2.2.2.1 u.2.2.2.2.2.2.2.2.2.2.2.2.1 u.2.2.2.2.2.2.2.2.2.2.2.2.2.1 u.2.2.2.2.2.2.2.2.2.2.2.2.2.2.1 u.2.2.2.2.2.2.2.2.2.2.2.2.2.2.2.1 u.2.2.2.2.2.2.2.2.2.2.2.2.2.2.2.2.1 u.2.2.2.2.2.2.2.2.2.2.2.2.2.2.2.2.2.1 u.2.2.2.2.2.2.2.2.2.2.2.2.2.2.2.2.2.2.1 u.2.2.2.2.2.2.2.2.2.2.2.2.2.2.2.2.2.2.2.1 u.2.2.2.2.2.2.2.2.2.2.2.2.2.2.2.2.2.2.2.2.1 u.2.2.2.2.2.2.2.2.2.2.2.2.2.2.2.2.2.2.2.2.2.1 u.2.2.2.2.2.2.2.2.2.2.2.2.2.2.2.2.2.2.2.2.2.2 := sq_l207 ha hb (Or.inl (by decide)) (h u hU)
  refine br_c (fun _ => h0) (fun _ => br_c (fun _ => h0) (fun _ => ?_))
  obtain ⟨⟨Q, hP, hR⟩, hk⟩ := hU
  refine sq_load (u := u) hP ht hv (fun _ => sq_l207 ha hb (Or.inr rfl) (h u ⟨⟨Q, hP, hR⟩, hk⟩)) (fun g u' g1 g2 => sq_l207 ha hb (Or.inl (nI_pos' ?_)) (h u' ⟨⟨_, g1, sq_Rb_ld hR⟩, g2⟩))
  have := sq_z6 hP ht
  omega
theorem sq_l125 {post : Int32 → Prop} {L kc ks k i t v : Nat} {xs : Nat → Int32} {s u : St1} {x5 x6 z : Int32} (hU : sq_UI u) (ht : t < 4) (hv : v < 3) (hz : ¬ z = 0 → ∃ c, u.1 = nI c ∧ c < 5) (h : ∀ u', sq_UI u' → wL_law_21 post L xs 0 kc ks k (nI (i + 2)) s.1 s.2.1 s.2.2.1 s.2.2.2.1 s.2.2.2.2.1 s.2.2.2.2.2.1 s.2.2.2.2.2.2.1 s.2.2.2.2.2.2.2.1 s.2.2.2.2.2.2.2.2.1 s.2.2.2.2.2.2.2.2.2.1 s.2.2.2.2.2.2.2.2.2.2.1 s.2.2.2.2.2.2.2.2.2.2.2.1 s.2.2.2.2.2.2.2.2.2.2.2.2.1 s.2.2.2.2.2.2.2.2.2.2.2.2.2.1 s.2.2.2.2.2.2.2.2.2.2.2.2.2.2.1 s.2.2.2.2.2.2.2.2.2.2.2.2.2.2.2.1 s.2.2.2.2.2.2.2.2.2.2.2.2.2.2.2.2.1 s.2.2.2.2.2.2.2.2.2.2.2.2.2.2.2.2.2.1 s.2.2.2.2.2.2.2.2.2.2.2.2.2.2.2.2.2.2.1 s.2.2.2.2.2.2.2.2.2.2.2.2.2.2.2.2.2.2.2.1 s.2.2.2.2.2.2.2.2.2.2.2.2.2.2.2.2.2.2.2.2.1 s.2.2.2.2.2.2.2.2.2.2.2.2.2.2.2.2.2.2.2.2.2.1 s.2.2.2.2.2.2.2.2.2.2.2.2.2.2.2.2.2.2.2.2.2.2 u'.1 u'.2.1 u'.2.2.1 u'.2.2.2.1 u'.2.2.2.2.1 u'.2.2.2.2.2.1 u'.2.2.2.2.2.2.1 u'.2.2.2.2.2.2.2.1 u'.2.2.2.2.2.2.2.2.1 u'.2.2.2.2.2.2.2.2.2.1 u'.2.2.2.2.2.2.2.2.2.2.1 u'.2.2.2.2.2.2.2.2.2.2.2.1 u'.2.2.2.2.2.2.2.2.2.2.2.2.1 u'.2.2.2.2.2.2.2.2.2.2.2.2.2.1 u'.2.2.2.2.2.2.2.2.2.2.2.2.2.2.1 u'.2.2.2.2.2.2.2.2.2.2.2.2.2.2.2.1 u'.2.2.2.2.2.2.2.2.2.2.2.2.2.2.2.2.1 u'.2.2.2.2.2.2.2.2.2.2.2.2.2.2.2.2.2.1 u'.2.2.2.2.2.2.2.2.2.2.2.2.2.2.2.2.2.2.1 u'.2.2.2.2.2.2.2.2.2.2.2.2.2.2.2.2.2.2.2.1 u'.2.2.2.2.2.2.2.2.2.2.2.2.2.2.2.2.2.2.2.2.1 u'.2.2.2.2.2.2.2.2.2.2.2.2.2.2.2.2.2.2.2.2.2.1 u'.2.2.2.2.2.2.2.2.2.2.2.2.2.2.2.2.2.2.2.2.2.2) : wL_law_125 post L xs (wL_law_21 post L xs 0 kc ks k) 0 (nI i) x5 x6 (nI t) (nI v) z kc ks s.1 s.2.1 s.2.2.1 s.2.2.2.1 s.2.2.2.2.1 s.2.2.2.2.2.1 s.2.2.2.2.2.2.1 s.2.2.2.2.2.2.2.1 s.2.2.2.2.2.2.2.2.1 s.2.2.2.2.2.2.2.2.2.1 s.2.2.2.2.2.2.2.2.2.2.1 s.2.2.2.2.2.2.2.2.2.2.2.1 s.2.2.2.2.2.2.2.2.2.2.2.2.1 s.2.2.2.2.2.2.2.2.2.2.2.2.2.1 s.2.2.2.2.2.2.2.2.2.2.2.2.2.2.1 s.2.2.2.2.2.2.2.2.2.2.2.2.2.2.2.1 s.2.2.2.2.2.2.2.2.2.2.2.2.2.2.2.2.1 s.2.2.2.2.2.2.2.2.2.2.2.2.2.2.2.2.2.1 s.2.2.2.2.2.2.2.2.2.2.2.2.2.2.2.2.2.2.1 s.2.2.2.2.2.2.2.2.2.2.2.2.2.2.2.2.2.2.2.1 s.2.2.2.2.2.2.2.2.2.2.2.2.2.2.2.2.2.2.2.2.1 s.2.2.2.2.2.2.2.2.2.2.2.2.2.2.2.2.2.2.2.2.2.1 s.2.2.2.2.2.2.2.2.2.2.2.2.2.2.2.2.2.2.2.2.2.2 u.1 u.2.1 u.2.2.1 u.2.2.2.1 u.2.2.2.2.1 u.2.2.2.2.2.1 u.2.2.2.2.2.2.1 u.2.2.2.2.2.2.2.1 u.2.2.2.2.2.2.2.2.1 u.2.2.2.2.2.2.2.2.2.1 u.2.2.2.2.2.2.2.2.2.2.1 u.2.2.2.2.2.2.2.2.2.2.2.1 u.2.2.2.2.2.2.2.2.2.2.2.2.1 u.2.2.2.2.2.2.2.2.2.2.2.2.2.1 u.2.2.2.2.2.2.2.2.2.2.2.2.2.2.1 u.2.2.2.2.2.2.2.2.2.2.2.2.2.2.2.1 u.2.2.2.2.2.2.2.2.2.2.2.2.2.2.2.2.1 u.2.2.2.2.2.2.2.2.2.2.2.2.2.2.2.2.2.1 u.2.2.2.2.2.2.2.2.2.2.2.2.2.2.2.2.2.2.1 u.2.2.2.2.2.2.2.2.2.2.2.2.2.2.2.2.2.2.2.1 u.2.2.2.2.2.2.2.2.2.2.2.2.2.2.2.2.2.2.2.2.1 u.2.2.2.2.2.2.2.2.2.2.2.2.2.2.2.2.2.2.2.2.2.1 u.2.2.2.2.2.2.2.2.2.2.2.2.2.2.2.2.2.2.2.2.2.2 := by
  have h0 : wL_law_161 post L xs (wL_law_21 post L xs 0 kc ks k) 0 (nI i) x5 (nI t) (nI v) kc ks s.1 s.2.1 s.2.2.1 s.2.2.2.1 s.2.2.2.2.1 s.2.2.2.2.2.1 s.2.2.2.2.2.2.1 s.2.2.2.2.2.2.2.1 s.2.2.2.2.2.2.2.2.1 s.2.2.2.2.2.2.2.2.2.1 s.2.2.2.2.2.2.2.2.2.2.1 s.2.2.2.2.2.2.2.2.2.2.2.1 s.2.2.2.2.2.2.2.2.2.2.2.2.1 s.2.2.2.2.2.2.2.2.2.2.2.2.2.1 s.2.2.2.2.2.2.2.2.2.2.2.2.2.2.1 s.2.2.2.2.2.2.2.2.2.2.2.2.2.2.2.1 s.2.2.2.2.2.2.2.2.2.2.2.2.2.2.2.2.1 s.2.2.2.2.2.2.2.2.2.2.2.2.2.2.2.2.2.1 s.2.2.2.2.2.2.2.2.2.2.2.2.2.2.2.2.2.2.1 s.2.2.2.2.2.2.2.2.2.2.2.2.2.2.2.2.2.2.2.1 s.2.2.2.2.2.2.2.2.2.2.2.2.2.2.2.2.2.2.2.2.1 s.2.2.2.2.2.2.2.2.2.2.2.2.2.2.2.2.2.2.2.2.2.1 s.2.2.2.2.2.2.2.2.2.2.2.2.2.2.2.2.2.2.2.2.2.2 u.1 u.2.1 u.2.2.1 u.2.2.2.1 u.2.2.2.2.1 u.2.2.2.2.2.1 u.2.2.2.2.2.2.1 u.2.2.2.2.2.2.2.1 u.2.2.2.2.2.2.2.2.1 u.2.2.2.2.2.2.2.2.2.1 u.2.2.2.2.2.2.2.2.2.2.1 u.2.2.2.2.2.2.2.2.2.2.2.1 u.2.2.2.2.2.2.2.2.2.2.2.2.1 u.2.2.2.2.2.2.2.2.2.2.2.2.2.1 u.2.2.2.2.2.2.2.2.2.2.2.2.2.2.1 u.2.2.2.2.2.2.2.2.2.2.2.2.2.2.2.1 u.2.2.2.2.2.2.2.2.2.2.2.2.2.2.2.2.1 u.2.2.2.2.2.2.2.2.2.2.2.2.2.2.2.2.2.1 u.2.2.2.2.2.2.2.2.2.2.2.2.2.2.2.2.2.2.1 u.2.2.2.2.2.2.2.2.2.2.2.2.2.2.2.2.2.2.2.1 u.2.2.2.2.2.2.2.2.2.2.2.2.2.2.2.2.2.2.2.2.1 u.2.2.2.2.2.2.2.2.2.2.2.2.2.2.2.2.2.2.2.2.2.1 u.2.2.2.2.2.2.2.2.2.2.2.2.2.2.2.2.2.2.2.2.2.2 := br_t (by decide) (sq_l179 (a := 0) (b := 0) hU ht hv (by decide) (by decide) h)
  refine br_c (fun _ => h0) (fun _ => br_c (fun _ => h0) (fun g => ⟨by decide, ?_⟩))
  obtain ⟨⟨Q, hP, hR⟩, hk⟩ := hU
  obtain ⟨c, c1, c2⟩ := hz g
  have et : u.1 = nI (sq_sm4 Q) := hP.1
  have hs : sq_sm4 Q ≤ 6 := hP.2.1
  have hs5 : sq_sm4 Q < 5 := by
    have := (nI_eq (by omega) (by omega)).mp (et.symm.trans c1)
    omega
  have hz6 := sq_z6 hP ht
  obtain ⟨w, w1, w2, e⟩ := sq_val x6
  rw [e]
  refine sq_store (u := u) hP ht hv w2 w1 (fun z => absurd z (by omega)) (fun _ u1 g1 g2 => ?_)
  refine br_f (nI_nle (by omega) (by omega)) ?_
  have hs1 : sq_sm4 (sq_qp Q t 0 v w) = sq_sm4 Q + 1 := by
    have := sq_sum_up (z := sq_z Q) (a := sq_z Q t + 1) ht
    show (if 0 = t then sq_z Q t + 1 else sq_z Q 0) + (if 1 = t then sq_z Q t + 1 else sq_z Q 1) + (if 2 = t then sq_z Q t + 1 else sq_z Q 2) + (if 3 = t then sq_z Q t + 1 else sq_z Q 3) = sq_z Q 0 + sq_z Q 1 + sq_z Q 2 + sq_z Q 3 + 1
    omega
  have hz7 := sq_z6 g1 ht
  refine sq_fence (u := u1) g1 ht (fun z => absurd z (by omega)) (fun _ u2 g3 g4 => ?_)
  exact sq_l179 (u := u2) ⟨⟨_, g3, sq_Rb_st hR⟩, g4⟩ ht hv (by omega) (by omega) h
theorem sq_l83 {post : Int32 → Prop} {L kc ks k i t : Nat} {xs : Nat → Int32} {s u : St1} {x5 x6 : Int32} (hU : sq_UI u) (ht : t < 4) (h : ∀ u', sq_UI u' → wL_law_21 post L xs 0 kc ks k (nI (i + 2)) s.1 s.2.1 s.2.2.1 s.2.2.2.1 s.2.2.2.2.1 s.2.2.2.2.2.1 s.2.2.2.2.2.2.1 s.2.2.2.2.2.2.2.1 s.2.2.2.2.2.2.2.2.1 s.2.2.2.2.2.2.2.2.2.1 s.2.2.2.2.2.2.2.2.2.2.1 s.2.2.2.2.2.2.2.2.2.2.2.1 s.2.2.2.2.2.2.2.2.2.2.2.2.1 s.2.2.2.2.2.2.2.2.2.2.2.2.2.1 s.2.2.2.2.2.2.2.2.2.2.2.2.2.2.1 s.2.2.2.2.2.2.2.2.2.2.2.2.2.2.2.1 s.2.2.2.2.2.2.2.2.2.2.2.2.2.2.2.2.1 s.2.2.2.2.2.2.2.2.2.2.2.2.2.2.2.2.2.1 s.2.2.2.2.2.2.2.2.2.2.2.2.2.2.2.2.2.2.1 s.2.2.2.2.2.2.2.2.2.2.2.2.2.2.2.2.2.2.2.1 s.2.2.2.2.2.2.2.2.2.2.2.2.2.2.2.2.2.2.2.2.1 s.2.2.2.2.2.2.2.2.2.2.2.2.2.2.2.2.2.2.2.2.2.1 s.2.2.2.2.2.2.2.2.2.2.2.2.2.2.2.2.2.2.2.2.2.2 u'.1 u'.2.1 u'.2.2.1 u'.2.2.2.1 u'.2.2.2.2.1 u'.2.2.2.2.2.1 u'.2.2.2.2.2.2.1 u'.2.2.2.2.2.2.2.1 u'.2.2.2.2.2.2.2.2.1 u'.2.2.2.2.2.2.2.2.2.1 u'.2.2.2.2.2.2.2.2.2.2.1 u'.2.2.2.2.2.2.2.2.2.2.2.1 u'.2.2.2.2.2.2.2.2.2.2.2.2.1 u'.2.2.2.2.2.2.2.2.2.2.2.2.2.1 u'.2.2.2.2.2.2.2.2.2.2.2.2.2.2.1 u'.2.2.2.2.2.2.2.2.2.2.2.2.2.2.2.1 u'.2.2.2.2.2.2.2.2.2.2.2.2.2.2.2.2.1 u'.2.2.2.2.2.2.2.2.2.2.2.2.2.2.2.2.2.1 u'.2.2.2.2.2.2.2.2.2.2.2.2.2.2.2.2.2.2.1 u'.2.2.2.2.2.2.2.2.2.2.2.2.2.2.2.2.2.2.2.1 u'.2.2.2.2.2.2.2.2.2.2.2.2.2.2.2.2.2.2.2.2.1 u'.2.2.2.2.2.2.2.2.2.2.2.2.2.2.2.2.2.2.2.2.2.1 u'.2.2.2.2.2.2.2.2.2.2.2.2.2.2.2.2.2.2.2.2.2.2) : wL_law_83 post L xs (wL_law_21 post L xs 0 kc ks k) 0 (nI i) x5 x6 (nI t) kc ks s.1 s.2.1 s.2.2.1 s.2.2.2.1 s.2.2.2.2.1 s.2.2.2.2.2.1 s.2.2.2.2.2.2.1 s.2.2.2.2.2.2.2.1 s.2.2.2.2.2.2.2.2.1 s.2.2.2.2.2.2.2.2.2.1 s.2.2.2.2.2.2.2.2.2.2.1 s.2.2.2.2.2.2.2.2.2.2.2.1 s.2.2.2.2.2.2.2.2.2.2.2.2.1 s.2.2.2.2.2.2.2.2.2.2.2.2.2.1 s.2.2.2.2.2.2.2.2.2.2.2.2.2.2.1 s.2.2.2.2.2.2.2.2.2.2.2.2.2.2.2.1 s.2.2.2.2.2.2.2.2.2.2.2.2.2.2.2.2.1 s.2.2.2.2.2.2.2.2.2.2.2.2.2.2.2.2.2.1 s.2.2.2.2.2.2.2.2.2.2.2.2.2.2.2.2.2.2.1 s.2.2.2.2.2.2.2.2.2.2.2.2.2.2.2.2.2.2.2.1 s.2.2.2.2.2.2.2.2.2.2.2.2.2.2.2.2.2.2.2.2.1 s.2.2.2.2.2.2.2.2.2.2.2.2.2.2.2.2.2.2.2.2.2.1 s.2.2.2.2.2.2.2.2.2.2.2.2.2.2.2.2.2.2.2.2.2.2 u.1 u.2.1 u.2.2.1 u.2.2.2.1 u.2.2.2.2.1 u.2.2.2.2.2.1 u.2.2.2.2.2.2.1 u.2.2.2.2.2.2.2.1 u.2.2.2.2.2.2.2.2.1 u.2.2.2.2.2.2.2.2.2.1 u.2.2.2.2.2.2.2.2.2.2.1 u.2.2.2.2.2.2.2.2.2.2.2.1 u.2.2.2.2.2.2.2.2.2.2.2.2.1 u.2.2.2.2.2.2.2.2.2.2.2.2.2.1 u.2.2.2.2.2.2.2.2.2.2.2.2.2.2.1 u.2.2.2.2.2.2.2.2.2.2.2.2.2.2.2.1 u.2.2.2.2.2.2.2.2.2.2.2.2.2.2.2.2.1 u.2.2.2.2.2.2.2.2.2.2.2.2.2.2.2.2.2.1 u.2.2.2.2.2.2.2.2.2.2.2.2.2.2.2.2.2.2.1 u.2.2.2.2.2.2.2.2.2.2.2.2.2.2.2.2.2.2.2.1 u.2.2.2.2.2.2.2.2.2.2.2.2.2.2.2.2.2.2.2.2.1 u.2.2.2.2.2.2.2.2.2.2.2.2.2.2.2.2.2.2.2.2.2.1 u.2.2.2.2.2.2.2.2.2.2.2.2.2.2.2.2.2.2.2.2.2.2 := by
  refine sq_var x6 (fun z => wL_law_107 post L xs (wL_law_21 post L xs 0 kc ks k) 0 (nI i) x5 x6 (nI t) z kc ks s.1 s.2.1 s.2.2.1 s.2.2.2.1 s.2.2.2.2.1 s.2.2.2.2.2.1 s.2.2.2.2.2.2.1 s.2.2.2.2.2.2.2.1 s.2.2.2.2.2.2.2.2.1 s.2.2.2.2.2.2.2.2.2.1 s.2.2.2.2.2.2.2.2.2.2.1 s.2.2.2.2.2.2.2.2.2.2.2.1 s.2.2.2.2.2.2.2.2.2.2.2.2.1 s.2.2.2.2.2.2.2.2.2.2.2.2.2.1 s.2.2.2.2.2.2.2.2.2.2.2.2.2.2.1 s.2.2.2.2.2.2.2.2.2.2.2.2.2.2.2.1 s.2.2.2.2.2.2.2.2.2.2.2.2.2.2.2.2.1 s.2.2.2.2.2.2.2.2.2.2.2.2.2.2.2.2.2.1 s.2.2.2.2.2.2.2.2.2.2.2.2.2.2.2.2.2.2.1 s.2.2.2.2.2.2.2.2.2.2.2.2.2.2.2.2.2.2.2.1 s.2.2.2.2.2.2.2.2.2.2.2.2.2.2.2.2.2.2.2.2.1 s.2.2.2.2.2.2.2.2.2.2.2.2.2.2.2.2.2.2.2.2.2.1 s.2.2.2.2.2.2.2.2.2.2.2.2.2.2.2.2.2.2.2.2.2.2 u.1 u.2.1 u.2.2.1 u.2.2.2.1 u.2.2.2.2.1 u.2.2.2.2.2.1 u.2.2.2.2.2.2.1 u.2.2.2.2.2.2.2.1 u.2.2.2.2.2.2.2.2.1 u.2.2.2.2.2.2.2.2.2.1 u.2.2.2.2.2.2.2.2.2.2.1 u.2.2.2.2.2.2.2.2.2.2.2.1 u.2.2.2.2.2.2.2.2.2.2.2.2.1 u.2.2.2.2.2.2.2.2.2.2.2.2.2.1 u.2.2.2.2.2.2.2.2.2.2.2.2.2.2.1 u.2.2.2.2.2.2.2.2.2.2.2.2.2.2.2.1 u.2.2.2.2.2.2.2.2.2.2.2.2.2.2.2.2.1 u.2.2.2.2.2.2.2.2.2.2.2.2.2.2.2.2.2.1 u.2.2.2.2.2.2.2.2.2.2.2.2.2.2.2.2.2.2.1 u.2.2.2.2.2.2.2.2.2.2.2.2.2.2.2.2.2.2.2.1 u.2.2.2.2.2.2.2.2.2.2.2.2.2.2.2.2.2.2.2.2.1 u.2.2.2.2.2.2.2.2.2.2.2.2.2.2.2.2.2.2.2.2.2.1 u.2.2.2.2.2.2.2.2.2.2.2.2.2.2.2.2.2.2.2.2.2.2) (fun v hv => ?_)
  obtain ⟨Q, hP, hR⟩ := hU.1
  have et : u.1 = nI (sq_sm4 Q) := hP.1
  have hs : sq_sm4 Q ≤ 6 := hP.2.1
  refine pk_le 6 (sq_sm4 Q + 1) (fun _ => sq_l125 hU ht hv (fun z => absurd rfl z) h) (fun z => sq_l125 hU ht hv (fun _ => ⟨_, et, by omega⟩) h) rfl ?_
  show u.1 + 1 = _
  rw [et, nI_1]
end
section
/-! the law's end -/
theorem sq_n512 {y : Int32 × (Nat → Int32) × (Nat → Int32) × (Nat → Int32) × (Nat → Int32)} {Q : sq_Q} {n n' : Nat} {f f' : Nat → Nat} (hP : sq_Pr y Q) (hC : sq_Cn Q n f n' f') : n ≤ 512 :=
  sq_B_ok (sq_pl_PL hP) false n f (fun i j h1 h2 => by have := hC.1 i j h1 h2; omega) (fun i hi => (hC.2.1 _).mp ⟨i, hi, rfl⟩)
theorem sq_sub {Q : sq_Q} {n n' : Nat} {f f' : Nat → Nat} (hV : sq_TV (sq_pl Q)) (hC : sq_Cn Q n f n' f') {x : Nat} (h : sq_mb n' f' x) : sq_mb n f x := (hC.2.1 x).mpr (sq_F1 hV ((hC.2.2.2 x).mp h))
theorem sq_inj {n : Nat} {f : Nat → Nat} (h : sq_so n f) {i j : Nat} (hi : i < n) (hj : j < n) (e : f i = f j) : i = j := by
  rcases Nat.lt_trichotomy i j with g | g | g
  · have := h i j g hj; omega
  · exact g
  · have := h j i g hi; omega
theorem sq_le {n n' : Nat} {f f' : Nat → Nat} (h' : sq_so n' f') (h : ∀ x, sq_mb n' f' x → sq_mb n f x) : n' ≤ n := by
  have := sq_pig f' (List.range n') ((List.range n).map f) List.nodup_range (fun i hi => by
    obtain ⟨j, hj, e⟩ := h (f' i) ⟨i, List.mem_range.mp hi, rfl⟩
    exact List.mem_map.mpr ⟨j, List.mem_range.mpr hj, e⟩) (fun i hi j hj e => sq_inj h' (List.mem_range.mp hi) (List.mem_range.mp hj) e)
  rw [List.length_range, List.length_map, List.length_range] at this
  exact this
theorem sq_ltn {n n' i : Nat} {f f' : Nat → Nat} (h' : sq_so n' f') (h : ∀ x, sq_mb n' f' x → sq_mb n f x) (hi : i < n) (hn : ¬ sq_mb n' f' (f i)) : n' < n := by
  have hnd : (f i :: (List.range n').map f').Nodup := by
    refine List.nodup_cons.mpr ⟨fun z => ?_, sq_nodup (fun a b h1 h2 e => by have := h' a b h1 h2; omega)⟩
    obtain ⟨j, hj, e⟩ := List.mem_map.mp z
    exact hn ⟨j, List.mem_range.mp hj, e⟩
  have := sq_pig (fun x : Nat => x) (f i :: (List.range n').map f') ((List.range n).map f) hnd (fun x hx => by
    rcases List.mem_cons.mp hx with e | e
    · exact List.mem_map.mpr ⟨i, List.mem_range.mpr hi, e.symm⟩
    · obtain ⟨j, hj, e⟩ := List.mem_map.mp e
      obtain ⟨k, hk, e'⟩ := h x ⟨j, List.mem_range.mp hj, e⟩
      exact List.mem_map.mpr ⟨k, List.mem_range.mpr hk, e'⟩) (fun a _ b _ e => e)
  rw [List.length_cons, List.length_map, List.length_range, List.length_map, List.length_range] at this
  omega
noncomputable def sq_mk (n' : Nat) (f' : Nat → Nat) (x : Nat) : Nat := @ite Nat (sq_mb n' f' x) (Classical.propDecidable _) 0 1
theorem sq_mk_t {n' x : Nat} {f' : Nat → Nat} (h : sq_mb n' f' x) : sq_mk n' f' x = 0 := if_pos h
theorem sq_mk_f {n' x : Nat} {f' : Nat → Nat} (h : ¬ sq_mb n' f' x) : ¬ sq_mk n' f' x = 0 := by
  have : sq_mk n' f' x = 1 := if_neg h
  rw [this]; decide
theorem sq_fl (k : Nat → Nat) : ∀ n, ((List.range n).filter (fun j => k j == 0)).length = sq_cnt k n
  | 0 => rfl
  | n + 1 => by
    rw [List.range_succ, List.filter_append, List.length_append, sq_fl k n]
    show _ = sq_cnt k n + (if k n = 0 then 1 else 0)
    by_cases e : k n = 0
    · rw [if_pos e]; simp [e]
    · rw [if_neg e]; simp [e]
theorem sq_both {n n' : Nat} {f f' : Nat → Nat} (hf : sq_so n f) (hf' : sq_so n' f') (h : ∀ x, sq_mb n' f' x → sq_mb n f x) : sq_cnt (fun j => sq_mk n' f' (f j)) n = n' := by
  have hl := sq_fl (fun j => sq_mk n' f' (f j)) n
  have hm : ∀ j, j ∈ (List.range n).filter (fun j => sq_mk n' f' (f j) == 0) ↔ j < n ∧ sq_mb n' f' (f j) := by
    intro j
    rw [List.mem_filter, List.mem_range, beq_iff_eq]
    constructor
    · rintro ⟨h1, h2⟩
      refine ⟨h1, ?_⟩
      apply Classical.byContradiction
      intro g
      exact sq_mk_f g h2
    · rintro ⟨h1, h2⟩
      exact ⟨h1, sq_mk_t h2⟩
  have a := sq_pig f ((List.range n).filter (fun j => sq_mk n' f' (f j) == 0)) ((List.range n').map f') (List.Pairwise.filter _ List.nodup_range) (fun j hj => by
    obtain ⟨i, hi, e⟩ := ((hm j).mp hj).2
    exact List.mem_map.mpr ⟨i, List.mem_range.mpr hi, e⟩) (fun i hi j hj e => sq_inj hf ((hm i).mp hi).1 ((hm j).mp hj).1 e)
  have b := sq_pig f' (List.range n') (((List.range n).filter (fun j => sq_mk n' f' (f j) == 0)).map f) List.nodup_range (fun i hi => by
    obtain ⟨j, hj, e⟩ := h (f' i) ⟨i, List.mem_range.mp hi, rfl⟩
    exact List.mem_map.mpr ⟨j, (hm j).mpr ⟨hj, i, List.mem_range.mp hi, e.symm⟩, e⟩) (fun i hi j hj e => sq_inj hf' (List.mem_range.mp hi) (List.mem_range.mp hj) e)
  rw [List.length_map, List.length_range, hl] at a
  rw [List.length_map, List.length_range, hl] at b
  omega
theorem sq_UI_WI {u : St1} (hU : sq_UI u) : ∃ Q n f n' f', sq_Cn Q n f n' f' ∧ sq_WI u Q n f n' f' ∧ ∀ i, i < n → sq_mb n' f' (f i) := by
  obtain ⟨⟨Q, hP, hR⟩, hk⟩ := hU
  have hV := (sq_pl_PL hP).1
  obtain ⟨n, f, n', f', hC⟩ := sq_Cn_ex hV
  exact ⟨Q, n, f, n', f', hC, ⟨hP, Or.inl hk⟩, fun i hi => (hC.2.2.2 _).mpr (sq_F2 hV (sq_Rb_Rob hR) ((hC.2.1 _).mp ⟨i, hi, rfl⟩))⟩
theorem sq_l500 {post : Int32 → Prop} {L kc ks : Nat} {xs : Nat → Int32} {u : St1} {x5 x9 : Int32} (hU : sq_UI u) (e : x9 = x5) (h : post 1) : wL_law_500 post L xs x5 x9 kc ks u.1 u.2.1 u.2.2.1 u.2.2.2.1 u.2.2.2.2.1 u.2.2.2.2.2.1 u.2.2.2.2.2.2.1 u.2.2.2.2.2.2.2.1 u.2.2.2.2.2.2.2.2.1 u.2.2.2.2.2.2.2.2.2.1 u.2.2.2.2.2.2.2.2.2.2.1 u.2.2.2.2.2.2.2.2.2.2.2.1 u.2.2.2.2.2.2.2.2.2.2.2.2.1 u.2.2.2.2.2.2.2.2.2.2.2.2.2.1 u.2.2.2.2.2.2.2.2.2.2.2.2.2.2.1 u.2.2.2.2.2.2.2.2.2.2.2.2.2.2.2.1 u.2.2.2.2.2.2.2.2.2.2.2.2.2.2.2.2.1 u.2.2.2.2.2.2.2.2.2.2.2.2.2.2.2.2.2.1 u.2.2.2.2.2.2.2.2.2.2.2.2.2.2.2.2.2.2.1 u.2.2.2.2.2.2.2.2.2.2.2.2.2.2.2.2.2.2.2.1 u.2.2.2.2.2.2.2.2.2.2.2.2.2.2.2.2.2.2.2.2.1 u.2.2.2.2.2.2.2.2.2.2.2.2.2.2.2.2.2.2.2.2.2.1 u.2.2.2.2.2.2.2.2.2.2.2.2.2.2.2.2.2.2.2.2.2.2 := by
  obtain ⟨Q, n, f, n', f', hC, hW, hA⟩ := sq_UI_WI hU
  refine br_t e ?_
  refine sq_surprise (u := u) hC hW (fun _ u1 g1 => br_t rfl ?_) (fun i hi z => absurd (hA i hi) z)
  exact sq_fences (u := u1) hC (sq_Gd_WI g1) (fun _ u2 _ => br_t rfl h) (fun ⟨i, hi, z⟩ => absurd (hA i hi) z)
theorem sq_bit {S c : Nat} (hS : S < 16) (hc : c < 4) (h : S.testBit c = true) : (nI S >>> (nI c &&& 31)) &&& 1 = 1 := by
  rw [sq_shr (by omega) (by omega), pk_andN (k := 1) (Nat.lt_of_le_of_lt (Nat.div_le_self _ _) (by omega)) (by decide)]
  rw [Nat.testBit_eq_decide_div_mod_eq, decide_eq_true_iff] at h
  rw [show S / 2 ^ c % 2 ^ 1 = 1 from h]
  rfl
theorem sq_l454 {post : Int32 → Prop} {L kc ks kk l k : Nat} {xs : Nat → Int32} {s u : St1} {Q : sq_Q} {n n' : Nat} {f f' : Nat → Nat} {x4 x5 x9 : Int32} (hC : sq_Cn Q n f n' f') (hW : sq_WI s Q n f n' f') (hl : l ≤ 6) (hlb : l ≤ sq_lb Q 4) (hk : k < n) (hf : f k < 262144)
    (h : ∀ s', sq_WI s' Q n f n' f' → wL_law_386 post L xs (nI l) x4 x5 kc ks kk (nI (f k)) x9 (nI (k + 1)) s'.1 s'.2.1 s'.2.2.1 s'.2.2.2.1 s'.2.2.2.2.1 s'.2.2.2.2.2.1 s'.2.2.2.2.2.2.1 s'.2.2.2.2.2.2.2.1 s'.2.2.2.2.2.2.2.2.1 s'.2.2.2.2.2.2.2.2.2.1 s'.2.2.2.2.2.2.2.2.2.2.1 s'.2.2.2.2.2.2.2.2.2.2.2.1 s'.2.2.2.2.2.2.2.2.2.2.2.2.1 s'.2.2.2.2.2.2.2.2.2.2.2.2.2.1 s'.2.2.2.2.2.2.2.2.2.2.2.2.2.2.1 s'.2.2.2.2.2.2.2.2.2.2.2.2.2.2.2.1 s'.2.2.2.2.2.2.2.2.2.2.2.2.2.2.2.2.1 s'.2.2.2.2.2.2.2.2.2.2.2.2.2.2.2.2.2.1 s'.2.2.2.2.2.2.2.2.2.2.2.2.2.2.2.2.2.2.1 s'.2.2.2.2.2.2.2.2.2.2.2.2.2.2.2.2.2.2.2.1 s'.2.2.2.2.2.2.2.2.2.2.2.2.2.2.2.2.2.2.2.2.1 s'.2.2.2.2.2.2.2.2.2.2.2.2.2.2.2.2.2.2.2.2.2.1 s'.2.2.2.2.2.2.2.2.2.2.2.2.2.2.2.2.2.2.2.2.2.2 u.1 u.2.1 u.2.2.1 u.2.2.2.1 u.2.2.2.2.1 u.2.2.2.2.2.1 u.2.2.2.2.2.2.1 u.2.2.2.2.2.2.2.1 u.2.2.2.2.2.2.2.2.1 u.2.2.2.2.2.2.2.2.2.1 u.2.2.2.2.2.2.2.2.2.2.1 u.2.2.2.2.2.2.2.2.2.2.2.1 u.2.2.2.2.2.2.2.2.2.2.2.2.1 u.2.2.2.2.2.2.2.2.2.2.2.2.2.1 u.2.2.2.2.2.2.2.2.2.2.2.2.2.2.1 u.2.2.2.2.2.2.2.2.2.2.2.2.2.2.2.1 u.2.2.2.2.2.2.2.2.2.2.2.2.2.2.2.2.1 u.2.2.2.2.2.2.2.2.2.2.2.2.2.2.2.2.2.1 u.2.2.2.2.2.2.2.2.2.2.2.2.2.2.2.2.2.2.1 u.2.2.2.2.2.2.2.2.2.2.2.2.2.2.2.2.2.2.2.1 u.2.2.2.2.2.2.2.2.2.2.2.2.2.2.2.2.2.2.2.2.1 u.2.2.2.2.2.2.2.2.2.2.2.2.2.2.2.2.2.2.2.2.2.1 u.2.2.2.2.2.2.2.2.2.2.2.2.2.2.2.2.2.2.2.2.2.2) :
    ∃ fu, wL_law_454 post L xs (wL_law_386 post L xs (nI l) x4 x5 kc ks kk) (nI l) x4 x5 x9 (nI k) (nI (f k)) kc ks fu 0 s.1 s.2.1 s.2.2.1 s.2.2.2.1 s.2.2.2.2.1 s.2.2.2.2.2.1 s.2.2.2.2.2.2.1 s.2.2.2.2.2.2.2.1 s.2.2.2.2.2.2.2.2.1 s.2.2.2.2.2.2.2.2.2.1 s.2.2.2.2.2.2.2.2.2.2.1 s.2.2.2.2.2.2.2.2.2.2.2.1 s.2.2.2.2.2.2.2.2.2.2.2.2.1 s.2.2.2.2.2.2.2.2.2.2.2.2.2.1 s.2.2.2.2.2.2.2.2.2.2.2.2.2.2.1 s.2.2.2.2.2.2.2.2.2.2.2.2.2.2.2.1 s.2.2.2.2.2.2.2.2.2.2.2.2.2.2.2.2.1 s.2.2.2.2.2.2.2.2.2.2.2.2.2.2.2.2.2.1 s.2.2.2.2.2.2.2.2.2.2.2.2.2.2.2.2.2.2.1 s.2.2.2.2.2.2.2.2.2.2.2.2.2.2.2.2.2.2.2.1 s.2.2.2.2.2.2.2.2.2.2.2.2.2.2.2.2.2.2.2.2.1 s.2.2.2.2.2.2.2.2.2.2.2.2.2.2.2.2.2.2.2.2.2.1 s.2.2.2.2.2.2.2.2.2.2.2.2.2.2.2.2.2.2.2.2.2.2 u.1 u.2.1 u.2.2.1 u.2.2.2.1 u.2.2.2.2.1 u.2.2.2.2.2.1 u.2.2.2.2.2.2.1 u.2.2.2.2.2.2.2.1 u.2.2.2.2.2.2.2.2.1 u.2.2.2.2.2.2.2.2.2.1 u.2.2.2.2.2.2.2.2.2.2.1 u.2.2.2.2.2.2.2.2.2.2.2.1 u.2.2.2.2.2.2.2.2.2.2.2.2.1 u.2.2.2.2.2.2.2.2.2.2.2.2.2.1 u.2.2.2.2.2.2.2.2.2.2.2.2.2.2.1 u.2.2.2.2.2.2.2.2.2.2.2.2.2.2.2.1 u.2.2.2.2.2.2.2.2.2.2.2.2.2.2.2.2.1 u.2.2.2.2.2.2.2.2.2.2.2.2.2.2.2.2.2.1 u.2.2.2.2.2.2.2.2.2.2.2.2.2.2.2.2.2.2.1 u.2.2.2.2.2.2.2.2.2.2.2.2.2.2.2.2.2.2.2.1 u.2.2.2.2.2.2.2.2.2.2.2.2.2.2.2.2.2.2.2.2.1 u.2.2.2.2.2.2.2.2.2.2.2.2.2.2.2.2.2.2.2.2.2.1 u.2.2.2.2.2.2.2.2.2.2.2.2.2.2.2.2.2.2.2.2.2.2 := by
  refine pk_loop (fun j i z => wL_law_454 post L xs (wL_law_386 post L xs (nI l) x4 x5 kc ks kk) (nI l) x4 x5 x9 (nI k) (nI (f k)) kc ks j (nI i) z.1 z.2.1 z.2.2.1 z.2.2.2.1 z.2.2.2.2.1 z.2.2.2.2.2.1 z.2.2.2.2.2.2.1 z.2.2.2.2.2.2.2.1 z.2.2.2.2.2.2.2.2.1 z.2.2.2.2.2.2.2.2.2.1 z.2.2.2.2.2.2.2.2.2.2.1 z.2.2.2.2.2.2.2.2.2.2.2.1 z.2.2.2.2.2.2.2.2.2.2.2.2.1 z.2.2.2.2.2.2.2.2.2.2.2.2.2.1 z.2.2.2.2.2.2.2.2.2.2.2.2.2.2.1 z.2.2.2.2.2.2.2.2.2.2.2.2.2.2.2.1 z.2.2.2.2.2.2.2.2.2.2.2.2.2.2.2.2.1 z.2.2.2.2.2.2.2.2.2.2.2.2.2.2.2.2.2.1 z.2.2.2.2.2.2.2.2.2.2.2.2.2.2.2.2.2.2.1 z.2.2.2.2.2.2.2.2.2.2.2.2.2.2.2.2.2.2.2.1 z.2.2.2.2.2.2.2.2.2.2.2.2.2.2.2.2.2.2.2.2.1 z.2.2.2.2.2.2.2.2.2.2.2.2.2.2.2.2.2.2.2.2.2.1 z.2.2.2.2.2.2.2.2.2.2.2.2.2.2.2.2.2.2.2.2.2.2 u.1 u.2.1 u.2.2.1 u.2.2.2.1 u.2.2.2.2.1 u.2.2.2.2.2.1 u.2.2.2.2.2.2.1 u.2.2.2.2.2.2.2.1 u.2.2.2.2.2.2.2.2.1 u.2.2.2.2.2.2.2.2.2.1 u.2.2.2.2.2.2.2.2.2.2.1 u.2.2.2.2.2.2.2.2.2.2.2.1 u.2.2.2.2.2.2.2.2.2.2.2.2.1 u.2.2.2.2.2.2.2.2.2.2.2.2.2.1 u.2.2.2.2.2.2.2.2.2.2.2.2.2.2.1 u.2.2.2.2.2.2.2.2.2.2.2.2.2.2.2.1 u.2.2.2.2.2.2.2.2.2.2.2.2.2.2.2.2.1 u.2.2.2.2.2.2.2.2.2.2.2.2.2.2.2.2.2.1 u.2.2.2.2.2.2.2.2.2.2.2.2.2.2.2.2.2.2.1 u.2.2.2.2.2.2.2.2.2.2.2.2.2.2.2.2.2.2.2.1 u.2.2.2.2.2.2.2.2.2.2.2.2.2.2.2.2.2.2.2.2.1 u.2.2.2.2.2.2.2.2.2.2.2.2.2.2.2.2.2.2.2.2.2.1 u.2.2.2.2.2.2.2.2.2.2.2.2.2.2.2.2.2.2.2.2.2.2) (fun _ z => sq_WI z Q n f n' f') l 0 s (by omega) hW ?_ ?_
  · intro j z hz
    exact pk_le l l (fun _ => nm_r (nI_1 k) (h z hz)) (fun y => absurd y (by omega))
  · intro j i z hi hz hw
    refine pk_le l i (fun y => absurd y (by omega)) (fun _ => ?_)
    refine sq_finds (u := z) hC hz (by omega) (fun u' _ g => absurd g (by omega)) (fun u' S g1 _ g2 g3 => br_t ?_ (nm_r (nI_1 i) (hw u' (sq_Gd_WI g1))))
    rw [sq_get (j := i) (by omega) (by omega) (sq_2x i)]
    exact sq_bit g2 (sq_C4 _ _) (g3 k hk)
theorem sq_l386 {post : Int32 → Prop} {L kc ks l : Nat} {xs : Nat → Int32} {s u : St1} {Q : sq_Q} {n n' : Nat} {f f' : Nat → Nat} (hC : sq_Cn Q n f n' f') (hW : sq_WI s Q n f n' f') (hU : sq_UI u) (hl : l ≤ 6) (hlb : l ≤ sq_lb Q 4) (h : post 1) :
    ∃ fu, wL_law_386 post L xs (nI l) (nI n) (nI n') kc ks fu (-1) 0 0 s.1 s.2.1 s.2.2.1 s.2.2.2.1 s.2.2.2.2.1 s.2.2.2.2.2.1 s.2.2.2.2.2.2.1 s.2.2.2.2.2.2.2.1 s.2.2.2.2.2.2.2.2.1 s.2.2.2.2.2.2.2.2.2.1 s.2.2.2.2.2.2.2.2.2.2.1 s.2.2.2.2.2.2.2.2.2.2.2.1 s.2.2.2.2.2.2.2.2.2.2.2.2.1 s.2.2.2.2.2.2.2.2.2.2.2.2.2.1 s.2.2.2.2.2.2.2.2.2.2.2.2.2.2.1 s.2.2.2.2.2.2.2.2.2.2.2.2.2.2.2.1 s.2.2.2.2.2.2.2.2.2.2.2.2.2.2.2.2.1 s.2.2.2.2.2.2.2.2.2.2.2.2.2.2.2.2.2.1 s.2.2.2.2.2.2.2.2.2.2.2.2.2.2.2.2.2.2.1 s.2.2.2.2.2.2.2.2.2.2.2.2.2.2.2.2.2.2.2.1 s.2.2.2.2.2.2.2.2.2.2.2.2.2.2.2.2.2.2.2.2.1 s.2.2.2.2.2.2.2.2.2.2.2.2.2.2.2.2.2.2.2.2.2.1 s.2.2.2.2.2.2.2.2.2.2.2.2.2.2.2.2.2.2.2.2.2.2 u.1 u.2.1 u.2.2.1 u.2.2.2.1 u.2.2.2.2.1 u.2.2.2.2.2.1 u.2.2.2.2.2.2.1 u.2.2.2.2.2.2.2.1 u.2.2.2.2.2.2.2.2.1 u.2.2.2.2.2.2.2.2.2.1 u.2.2.2.2.2.2.2.2.2.2.1 u.2.2.2.2.2.2.2.2.2.2.2.1 u.2.2.2.2.2.2.2.2.2.2.2.2.1 u.2.2.2.2.2.2.2.2.2.2.2.2.2.1 u.2.2.2.2.2.2.2.2.2.2.2.2.2.2.1 u.2.2.2.2.2.2.2.2.2.2.2.2.2.2.2.1 u.2.2.2.2.2.2.2.2.2.2.2.2.2.2.2.2.1 u.2.2.2.2.2.2.2.2.2.2.2.2.2.2.2.2.2.1 u.2.2.2.2.2.2.2.2.2.2.2.2.2.2.2.2.2.2.1 u.2.2.2.2.2.2.2.2.2.2.2.2.2.2.2.2.2.2.2.1 u.2.2.2.2.2.2.2.2.2.2.2.2.2.2.2.2.2.2.2.2.1 u.2.2.2.2.2.2.2.2.2.2.2.2.2.2.2.2.2.2.2.2.2.1 u.2.2.2.2.2.2.2.2.2.2.2.2.2.2.2.2.2.2.2.2.2.2 := by
  have hP := hW.1
  have hV := (sq_pl_PL hP).1
  have hn := sq_n512 hP hC
  have hlt : ∀ k, k < n → f k < 262144 := fun k hk => sq_Out_lt hV ((hC.2.1 _).mp ⟨k, hk, rfl⟩)
  refine pk_loop (σ := Int32 × Int32 × St1) (fun j k z => wL_law_386 post L xs (nI l) (nI n) (nI n') kc ks j z.1 z.2.1 (nI k) z.2.2.1 z.2.2.2.1 z.2.2.2.2.1 z.2.2.2.2.2.1 z.2.2.2.2.2.2.1 z.2.2.2.2.2.2.2.1 z.2.2.2.2.2.2.2.2.1 z.2.2.2.2.2.2.2.2.2.1 z.2.2.2.2.2.2.2.2.2.2.1 z.2.2.2.2.2.2.2.2.2.2.2.1 z.2.2.2.2.2.2.2.2.2.2.2.2.1 z.2.2.2.2.2.2.2.2.2.2.2.2.2.1 z.2.2.2.2.2.2.2.2.2.2.2.2.2.2.1 z.2.2.2.2.2.2.2.2.2.2.2.2.2.2.2.1 z.2.2.2.2.2.2.2.2.2.2.2.2.2.2.2.2.1 z.2.2.2.2.2.2.2.2.2.2.2.2.2.2.2.2.2.1 z.2.2.2.2.2.2.2.2.2.2.2.2.2.2.2.2.2.2.1 z.2.2.2.2.2.2.2.2.2.2.2.2.2.2.2.2.2.2.2.1 z.2.2.2.2.2.2.2.2.2.2.2.2.2.2.2.2.2.2.2.2.1 z.2.2.2.2.2.2.2.2.2.2.2.2.2.2.2.2.2.2.2.2.2.1 z.2.2.2.2.2.2.2.2.2.2.2.2.2.2.2.2.2.2.2.2.2.2.1 z.2.2.2.2.2.2.2.2.2.2.2.2.2.2.2.2.2.2.2.2.2.2.2.1 z.2.2.2.2.2.2.2.2.2.2.2.2.2.2.2.2.2.2.2.2.2.2.2.2 u.1 u.2.1 u.2.2.1 u.2.2.2.1 u.2.2.2.2.1 u.2.2.2.2.2.1 u.2.2.2.2.2.2.1 u.2.2.2.2.2.2.2.1 u.2.2.2.2.2.2.2.2.1 u.2.2.2.2.2.2.2.2.2.1 u.2.2.2.2.2.2.2.2.2.2.1 u.2.2.2.2.2.2.2.2.2.2.2.1 u.2.2.2.2.2.2.2.2.2.2.2.2.1 u.2.2.2.2.2.2.2.2.2.2.2.2.2.1 u.2.2.2.2.2.2.2.2.2.2.2.2.2.2.1 u.2.2.2.2.2.2.2.2.2.2.2.2.2.2.2.1 u.2.2.2.2.2.2.2.2.2.2.2.2.2.2.2.2.1 u.2.2.2.2.2.2.2.2.2.2.2.2.2.2.2.2.2.1 u.2.2.2.2.2.2.2.2.2.2.2.2.2.2.2.2.2.2.1 u.2.2.2.2.2.2.2.2.2.2.2.2.2.2.2.2.2.2.2.1 u.2.2.2.2.2.2.2.2.2.2.2.2.2.2.2.2.2.2.2.2.1 u.2.2.2.2.2.2.2.2.2.2.2.2.2.2.2.2.2.2.2.2.2.1 u.2.2.2.2.2.2.2.2.2.2.2.2.2.2.2.2.2.2.2.2.2.2) (fun k z => ((k = 0 ∧ z.1 = -1) ∨ (0 < k ∧ z.1 = nI (f (k - 1)))) ∧ z.2.1 = nI (sq_cnt (fun j => sq_mk n' f' (f j)) k) ∧ sq_WI z.2.2 Q n f n' f') n 0 (-1, 0, s) (by omega) ⟨Or.inl ⟨rfl, rfl⟩, rfl, hW⟩ ?_ ?_
  · rintro j ⟨la, bo, z⟩ ⟨_, i2, i3⟩
    refine pk_le 720 n (fun y => absurd y (by omega)) (fun _ => pk_le n n (fun _ => sq_l500 hU ?_ h) (fun y => absurd y (by omega)))
    have i2' : bo = nI (sq_cnt (fun j => sq_mk n' f' (f j)) n) := i2
    show bo = nI n'
    rw [i2', sq_both hC.1 hC.2.2.1 (fun x hx => sq_sub hV hC hx)]
  · rintro j k ⟨la, bo, z⟩ hk ⟨i1, i2, i3⟩ hw
    have i1' : (k = 0 ∧ la = -1) ∨ (0 < k ∧ la = nI (f (k - 1))) := i1
    have i2' : bo = nI (sq_cnt (fun j => sq_mk n' f' (f j)) k) := i2
    have i3' : sq_WI z Q n f n' f' := i3
    have hfk := hlt k hk
    have hla : ¬ nI (f k) ≤ la := by
      rcases i1' with ⟨_, e⟩ | ⟨k0, e⟩
      · rw [e]
        intro g
        rw [Int32.le_iff_toInt_le, nI_toInt (by omega)] at g
        have : (-1 : Int32).toInt = -1 := by decide
        rw [this] at g
        omega
      · rw [e]
        have := hC.1 (k - 1) k (by omega) hk
        exact nI_ge this (by omega)
    have fin : ∀ (b : Int32) (z2 : St1), b = nI (sq_cnt (fun j => sq_mk n' f' (f j)) (k + 1)) → sq_WI z2 Q n f n' f' → wL_law_431 post L xs (wL_law_386 post L xs (nI l) (nI n) (nI n') kc ks j) (nI l) (nI n) (nI n') la (nI k) (nI (f k)) b kc ks z2.1 z2.2.1 z2.2.2.1 z2.2.2.2.1 z2.2.2.2.2.1 z2.2.2.2.2.2.1 z2.2.2.2.2.2.2.1 z2.2.2.2.2.2.2.2.1 z2.2.2.2.2.2.2.2.2.1 z2.2.2.2.2.2.2.2.2.2.1 z2.2.2.2.2.2.2.2.2.2.2.1 z2.2.2.2.2.2.2.2.2.2.2.2.1 z2.2.2.2.2.2.2.2.2.2.2.2.2.1 z2.2.2.2.2.2.2.2.2.2.2.2.2.2.1 z2.2.2.2.2.2.2.2.2.2.2.2.2.2.2.1 z2.2.2.2.2.2.2.2.2.2.2.2.2.2.2.2.1 z2.2.2.2.2.2.2.2.2.2.2.2.2.2.2.2.2.1 z2.2.2.2.2.2.2.2.2.2.2.2.2.2.2.2.2.2.1 z2.2.2.2.2.2.2.2.2.2.2.2.2.2.2.2.2.2.2.1 z2.2.2.2.2.2.2.2.2.2.2.2.2.2.2.2.2.2.2.2.1 z2.2.2.2.2.2.2.2.2.2.2.2.2.2.2.2.2.2.2.2.2.1 z2.2.2.2.2.2.2.2.2.2.2.2.2.2.2.2.2.2.2.2.2.2.1 z2.2.2.2.2.2.2.2.2.2.2.2.2.2.2.2.2.2.2.2.2.2.2 u.1 u.2.1 u.2.2.1 u.2.2.2.1 u.2.2.2.2.1 u.2.2.2.2.2.1 u.2.2.2.2.2.2.1 u.2.2.2.2.2.2.2.1 u.2.2.2.2.2.2.2.2.1 u.2.2.2.2.2.2.2.2.2.1 u.2.2.2.2.2.2.2.2.2.2.1 u.2.2.2.2.2.2.2.2.2.2.2.1 u.2.2.2.2.2.2.2.2.2.2.2.2.1 u.2.2.2.2.2.2.2.2.2.2.2.2.2.1 u.2.2.2.2.2.2.2.2.2.2.2.2.2.2.1 u.2.2.2.2.2.2.2.2.2.2.2.2.2.2.2.1 u.2.2.2.2.2.2.2.2.2.2.2.2.2.2.2.2.1 u.2.2.2.2.2.2.2.2.2.2.2.2.2.2.2.2.2.1 u.2.2.2.2.2.2.2.2.2.2.2.2.2.2.2.2.2.2.1 u.2.2.2.2.2.2.2.2.2.2.2.2.2.2.2.2.2.2.2.1 u.2.2.2.2.2.2.2.2.2.2.2.2.2.2.2.2.2.2.2.2.1 u.2.2.2.2.2.2.2.2.2.2.2.2.2.2.2.2.2.2.2.2.2.1 u.2.2.2.2.2.2.2.2.2.2.2.2.2.2.2.2.2.2.2.2.2.2 := by
      intro b z2 eb hz2
      refine br_f hla ?_
      refine sq_possible (u := z2) hC hz2 hfk (fun _ z3 g3 => br_f (by decide) ?_) (fun g => absurd ⟨k, hk, rfl⟩ g)
      refine sq_l454 hC (sq_Gd_WI g3) hl hlb hk hfk (fun s' hs' => ?_)
      exact hw (nI (f k), b, s') ⟨Or.inr ⟨by omega, rfl⟩, eb, hs'⟩
    refine pk_le 720 k (fun y => absurd y (by omega)) (fun _ => pk_le n k (fun y => absurd y (by omega)) (fun _ => ?_))
    refine sq_outcome (u := z) hC i3' (by omega) (fun y => absurd y (by omega)) (fun _ z1 g1 => ?_)
    refine sq_strictlyPossible (u := z1) hC (sq_Gd_WI g1) hfk (fun y z2 g2 => br_f (by decide) (fin _ z2 ?_ (sq_Gd_WI g2))) (fun y z2 g2 => br_t rfl (fin _ z2 ?_ (sq_Gd_WI g2)))
    · show bo + 1 = _
      rw [i2', sq_cnt_s (k := fun j => sq_mk n' f' (f j)) (sq_mk_t y), nI_1]
    · show bo = _
      rw [i2', sq_cnt_n (k := fun j => sq_mk n' f' (f j)) (sq_mk_f y)]
theorem sq_l344 {post : Int32 → Prop} {L kc ks : Nat} {xs : Nat → Int32} {s u : St1} {Q : sq_Q} {n n' : Nat} {f f' : Nat → Nat} (hC : sq_Cn Q n f n' f') (hW : sq_WI s Q n f n' f') (hU : sq_UI u) (h : post 1) :
    ∃ fu, wL_law_344 post L xs (nI n) (nI n') kc ks fu 0 0 s.1 s.2.1 s.2.2.1 s.2.2.2.1 s.2.2.2.2.1 s.2.2.2.2.2.1 s.2.2.2.2.2.2.1 s.2.2.2.2.2.2.2.1 s.2.2.2.2.2.2.2.2.1 s.2.2.2.2.2.2.2.2.2.1 s.2.2.2.2.2.2.2.2.2.2.1 s.2.2.2.2.2.2.2.2.2.2.2.1 s.2.2.2.2.2.2.2.2.2.2.2.2.1 s.2.2.2.2.2.2.2.2.2.2.2.2.2.1 s.2.2.2.2.2.2.2.2.2.2.2.2.2.2.1 s.2.2.2.2.2.2.2.2.2.2.2.2.2.2.2.1 s.2.2.2.2.2.2.2.2.2.2.2.2.2.2.2.2.1 s.2.2.2.2.2.2.2.2.2.2.2.2.2.2.2.2.2.1 s.2.2.2.2.2.2.2.2.2.2.2.2.2.2.2.2.2.2.1 s.2.2.2.2.2.2.2.2.2.2.2.2.2.2.2.2.2.2.2.1 s.2.2.2.2.2.2.2.2.2.2.2.2.2.2.2.2.2.2.2.2.1 s.2.2.2.2.2.2.2.2.2.2.2.2.2.2.2.2.2.2.2.2.2.1 s.2.2.2.2.2.2.2.2.2.2.2.2.2.2.2.2.2.2.2.2.2.2 u.1 u.2.1 u.2.2.1 u.2.2.2.1 u.2.2.2.2.1 u.2.2.2.2.2.1 u.2.2.2.2.2.2.1 u.2.2.2.2.2.2.2.1 u.2.2.2.2.2.2.2.2.1 u.2.2.2.2.2.2.2.2.2.1 u.2.2.2.2.2.2.2.2.2.2.1 u.2.2.2.2.2.2.2.2.2.2.2.1 u.2.2.2.2.2.2.2.2.2.2.2.2.1 u.2.2.2.2.2.2.2.2.2.2.2.2.2.1 u.2.2.2.2.2.2.2.2.2.2.2.2.2.2.1 u.2.2.2.2.2.2.2.2.2.2.2.2.2.2.2.1 u.2.2.2.2.2.2.2.2.2.2.2.2.2.2.2.2.1 u.2.2.2.2.2.2.2.2.2.2.2.2.2.2.2.2.2.1 u.2.2.2.2.2.2.2.2.2.2.2.2.2.2.2.2.2.2.1 u.2.2.2.2.2.2.2.2.2.2.2.2.2.2.2.2.2.2.2.1 u.2.2.2.2.2.2.2.2.2.2.2.2.2.2.2.2.2.2.2.2.1 u.2.2.2.2.2.2.2.2.2.2.2.2.2.2.2.2.2.2.2.2.2.1 u.2.2.2.2.2.2.2.2.2.2.2.2.2.2.2.2.2.2.2.2.2.2 := by
  refine pk_loop (σ := Nat × St1) (fun j k z => wL_law_344 post L xs (nI n) (nI n') kc ks j (nI z.1) (nI k) z.2.1 z.2.2.1 z.2.2.2.1 z.2.2.2.2.1 z.2.2.2.2.2.1 z.2.2.2.2.2.2.1 z.2.2.2.2.2.2.2.1 z.2.2.2.2.2.2.2.2.1 z.2.2.2.2.2.2.2.2.2.1 z.2.2.2.2.2.2.2.2.2.2.1 z.2.2.2.2.2.2.2.2.2.2.2.1 z.2.2.2.2.2.2.2.2.2.2.2.2.1 z.2.2.2.2.2.2.2.2.2.2.2.2.2.1 z.2.2.2.2.2.2.2.2.2.2.2.2.2.2.1 z.2.2.2.2.2.2.2.2.2.2.2.2.2.2.2.1 z.2.2.2.2.2.2.2.2.2.2.2.2.2.2.2.2.1 z.2.2.2.2.2.2.2.2.2.2.2.2.2.2.2.2.2.1 z.2.2.2.2.2.2.2.2.2.2.2.2.2.2.2.2.2.2.1 z.2.2.2.2.2.2.2.2.2.2.2.2.2.2.2.2.2.2.2.1 z.2.2.2.2.2.2.2.2.2.2.2.2.2.2.2.2.2.2.2.2.1 z.2.2.2.2.2.2.2.2.2.2.2.2.2.2.2.2.2.2.2.2.2.1 z.2.2.2.2.2.2.2.2.2.2.2.2.2.2.2.2.2.2.2.2.2.2.1 z.2.2.2.2.2.2.2.2.2.2.2.2.2.2.2.2.2.2.2.2.2.2.2 u.1 u.2.1 u.2.2.1 u.2.2.2.1 u.2.2.2.2.1 u.2.2.2.2.2.1 u.2.2.2.2.2.2.1 u.2.2.2.2.2.2.2.1 u.2.2.2.2.2.2.2.2.1 u.2.2.2.2.2.2.2.2.2.1 u.2.2.2.2.2.2.2.2.2.2.1 u.2.2.2.2.2.2.2.2.2.2.2.1 u.2.2.2.2.2.2.2.2.2.2.2.2.1 u.2.2.2.2.2.2.2.2.2.2.2.2.2.1 u.2.2.2.2.2.2.2.2.2.2.2.2.2.2.1 u.2.2.2.2.2.2.2.2.2.2.2.2.2.2.2.1 u.2.2.2.2.2.2.2.2.2.2.2.2.2.2.2.2.1 u.2.2.2.2.2.2.2.2.2.2.2.2.2.2.2.2.2.1 u.2.2.2.2.2.2.2.2.2.2.2.2.2.2.2.2.2.2.1 u.2.2.2.2.2.2.2.2.2.2.2.2.2.2.2.2.2.2.2.1 u.2.2.2.2.2.2.2.2.2.2.2.2.2.2.2.2.2.2.2.2.1 u.2.2.2.2.2.2.2.2.2.2.2.2.2.2.2.2.2.2.2.2.2.1 u.2.2.2.2.2.2.2.2.2.2.2.2.2.2.2.2.2.2.2.2.2.2) (fun k z => z.1 ≤ 6 ∧ z.1 ≤ sq_lb Q 4 ∧ sq_WI z.2 Q n f n' f') 6 0 (0, s) (by omega) ⟨by omega, by omega, hW⟩ ?_ ?_
  · rintro j ⟨l, z⟩ ⟨i1, i2, i3⟩
    exact pk_le 6 6 (fun _ => sq_l386 hC i3 hU i1 i2 h) (fun y => absurd y (by omega))
  · rintro j k ⟨l, z⟩ hk ⟨i1, i2, i3⟩ hw
    have i3' : sq_WI z Q n f n' f' := i3
    refine pk_le 6 k (fun y => absurd y (by omega)) (fun _ => ?_)
    refine sq_finds (u := z) hC i3' hk (fun u' g1 g2 => br_t rfl (nm_r (nI_1 k) (hw (l, u') ⟨i1, i2, sq_Gd_WI g1⟩))) (fun u' S g1 g2 g3 _ => br_f (fun e => ?_) (nm_r (nI_1 k) (nm_r (nI_1 k) (hw (k + 1, u') ⟨by show k + 1 ≤ 6; omega, by show k + 1 ≤ sq_lb Q 4; omega, sq_Gd_WI g1⟩))))
    exact nI_pos (show S < 2 ^ 31 by omega) (by rw [e]; decide)
theorem sq_l325 {post : Int32 → Prop} {L kc ks : Nat} {xs : Nat → Int32} {s u : St1} {Q : sq_Q} {n n' : Nat} {f f' : Nat → Nat} {z : Int32} (hC : sq_Cn Q n f n' f') (hW : sq_WI s Q n f n' f') (hU : sq_UI u) (h : post 1) :
    wL_law_325 post L xs 0 (nI n) (nI n') z z kc ks s.1 s.2.1 s.2.2.1 s.2.2.2.1 s.2.2.2.2.1 s.2.2.2.2.2.1 s.2.2.2.2.2.2.1 s.2.2.2.2.2.2.2.1 s.2.2.2.2.2.2.2.2.1 s.2.2.2.2.2.2.2.2.2.1 s.2.2.2.2.2.2.2.2.2.2.1 s.2.2.2.2.2.2.2.2.2.2.2.1 s.2.2.2.2.2.2.2.2.2.2.2.2.1 s.2.2.2.2.2.2.2.2.2.2.2.2.2.1 s.2.2.2.2.2.2.2.2.2.2.2.2.2.2.1 s.2.2.2.2.2.2.2.2.2.2.2.2.2.2.2.1 s.2.2.2.2.2.2.2.2.2.2.2.2.2.2.2.2.1 s.2.2.2.2.2.2.2.2.2.2.2.2.2.2.2.2.2.1 s.2.2.2.2.2.2.2.2.2.2.2.2.2.2.2.2.2.2.1 s.2.2.2.2.2.2.2.2.2.2.2.2.2.2.2.2.2.2.2.1 s.2.2.2.2.2.2.2.2.2.2.2.2.2.2.2.2.2.2.2.2.1 s.2.2.2.2.2.2.2.2.2.2.2.2.2.2.2.2.2.2.2.2.2.1 s.2.2.2.2.2.2.2.2.2.2.2.2.2.2.2.2.2.2.2.2.2.2 u.1 u.2.1 u.2.2.1 u.2.2.2.1 u.2.2.2.2.1 u.2.2.2.2.2.1 u.2.2.2.2.2.2.1 u.2.2.2.2.2.2.2.1 u.2.2.2.2.2.2.2.2.1 u.2.2.2.2.2.2.2.2.2.1 u.2.2.2.2.2.2.2.2.2.2.1 u.2.2.2.2.2.2.2.2.2.2.2.1 u.2.2.2.2.2.2.2.2.2.2.2.2.1 u.2.2.2.2.2.2.2.2.2.2.2.2.2.1 u.2.2.2.2.2.2.2.2.2.2.2.2.2.2.1 u.2.2.2.2.2.2.2.2.2.2.2.2.2.2.2.1 u.2.2.2.2.2.2.2.2.2.2.2.2.2.2.2.2.1 u.2.2.2.2.2.2.2.2.2.2.2.2.2.2.2.2.2.1 u.2.2.2.2.2.2.2.2.2.2.2.2.2.2.2.2.2.2.1 u.2.2.2.2.2.2.2.2.2.2.2.2.2.2.2.2.2.2.2.1 u.2.2.2.2.2.2.2.2.2.2.2.2.2.2.2.2.2.2.2.2.1 u.2.2.2.2.2.2.2.2.2.2.2.2.2.2.2.2.2.2.2.2.2.1 u.2.2.2.2.2.2.2.2.2.2.2.2.2.2.2.2.2.2.2.2.2.2 := by
  have hn := sq_n512 hW.1 hC
  refine br_t rfl ?_
  exact sq_outcome (u := s) hC hW (by omega) (fun _ s1 g1 => br_t rfl (sq_l344 hC (sq_Gd_WI g1) hU h)) (fun y => absurd y (by omega))
theorem sq_l21 {post : Int32 → Prop} {L kc ks : Nat} {xs : Nat → Int32} {s u : St1} (hL : L ≤ 260) (hS : sq_SI s) (hU : sq_UI u) (h : post 1) : ∃ fu, wL_law_21 post L xs 0 kc ks fu 0 s.1 s.2.1 s.2.2.1 s.2.2.2.1 s.2.2.2.2.1 s.2.2.2.2.2.1 s.2.2.2.2.2.2.1 s.2.2.2.2.2.2.2.1 s.2.2.2.2.2.2.2.2.1 s.2.2.2.2.2.2.2.2.2.1 s.2.2.2.2.2.2.2.2.2.2.1 s.2.2.2.2.2.2.2.2.2.2.2.1 s.2.2.2.2.2.2.2.2.2.2.2.2.1 s.2.2.2.2.2.2.2.2.2.2.2.2.2.1 s.2.2.2.2.2.2.2.2.2.2.2.2.2.2.1 s.2.2.2.2.2.2.2.2.2.2.2.2.2.2.2.1 s.2.2.2.2.2.2.2.2.2.2.2.2.2.2.2.2.1 s.2.2.2.2.2.2.2.2.2.2.2.2.2.2.2.2.2.1 s.2.2.2.2.2.2.2.2.2.2.2.2.2.2.2.2.2.2.1 s.2.2.2.2.2.2.2.2.2.2.2.2.2.2.2.2.2.2.2.1 s.2.2.2.2.2.2.2.2.2.2.2.2.2.2.2.2.2.2.2.2.1 s.2.2.2.2.2.2.2.2.2.2.2.2.2.2.2.2.2.2.2.2.2.1 s.2.2.2.2.2.2.2.2.2.2.2.2.2.2.2.2.2.2.2.2.2.2 u.1 u.2.1 u.2.2.1 u.2.2.2.1 u.2.2.2.2.1 u.2.2.2.2.2.1 u.2.2.2.2.2.2.1 u.2.2.2.2.2.2.2.1 u.2.2.2.2.2.2.2.2.1 u.2.2.2.2.2.2.2.2.2.1 u.2.2.2.2.2.2.2.2.2.2.1 u.2.2.2.2.2.2.2.2.2.2.2.1 u.2.2.2.2.2.2.2.2.2.2.2.2.1 u.2.2.2.2.2.2.2.2.2.2.2.2.2.1 u.2.2.2.2.2.2.2.2.2.2.2.2.2.2.1 u.2.2.2.2.2.2.2.2.2.2.2.2.2.2.2.1 u.2.2.2.2.2.2.2.2.2.2.2.2.2.2.2.2.1 u.2.2.2.2.2.2.2.2.2.2.2.2.2.2.2.2.2.1 u.2.2.2.2.2.2.2.2.2.2.2.2.2.2.2.2.2.2.1 u.2.2.2.2.2.2.2.2.2.2.2.2.2.2.2.2.2.2.2.1 u.2.2.2.2.2.2.2.2.2.2.2.2.2.2.2.2.2.2.2.2.1 u.2.2.2.2.2.2.2.2.2.2.2.2.2.2.2.2.2.2.2.2.2.1 u.2.2.2.2.2.2.2.2.2.2.2.2.2.2.2.2.2.2.2.2.2.2 := by
  refine loop_m (σ := Nat × St1 × St1) (fun k z => wL_law_21 post L xs 0 kc ks k (nI z.1) z.2.1.1 z.2.1.2.1 z.2.1.2.2.1 z.2.1.2.2.2.1 z.2.1.2.2.2.2.1 z.2.1.2.2.2.2.2.1 z.2.1.2.2.2.2.2.2.1 z.2.1.2.2.2.2.2.2.2.1 z.2.1.2.2.2.2.2.2.2.2.1 z.2.1.2.2.2.2.2.2.2.2.2.1 z.2.1.2.2.2.2.2.2.2.2.2.2.1 z.2.1.2.2.2.2.2.2.2.2.2.2.2.1 z.2.1.2.2.2.2.2.2.2.2.2.2.2.2.1 z.2.1.2.2.2.2.2.2.2.2.2.2.2.2.2.1 z.2.1.2.2.2.2.2.2.2.2.2.2.2.2.2.2.1 z.2.1.2.2.2.2.2.2.2.2.2.2.2.2.2.2.2.1 z.2.1.2.2.2.2.2.2.2.2.2.2.2.2.2.2.2.2.1 z.2.1.2.2.2.2.2.2.2.2.2.2.2.2.2.2.2.2.2.1 z.2.1.2.2.2.2.2.2.2.2.2.2.2.2.2.2.2.2.2.2.1 z.2.1.2.2.2.2.2.2.2.2.2.2.2.2.2.2.2.2.2.2.2.1 z.2.1.2.2.2.2.2.2.2.2.2.2.2.2.2.2.2.2.2.2.2.2.1 z.2.1.2.2.2.2.2.2.2.2.2.2.2.2.2.2.2.2.2.2.2.2.2.1 z.2.1.2.2.2.2.2.2.2.2.2.2.2.2.2.2.2.2.2.2.2.2.2.2 z.2.2.1 z.2.2.2.1 z.2.2.2.2.1 z.2.2.2.2.2.1 z.2.2.2.2.2.2.1 z.2.2.2.2.2.2.2.1 z.2.2.2.2.2.2.2.2.1 z.2.2.2.2.2.2.2.2.2.1 z.2.2.2.2.2.2.2.2.2.2.1 z.2.2.2.2.2.2.2.2.2.2.2.1 z.2.2.2.2.2.2.2.2.2.2.2.2.1 z.2.2.2.2.2.2.2.2.2.2.2.2.2.1 z.2.2.2.2.2.2.2.2.2.2.2.2.2.2.1 z.2.2.2.2.2.2.2.2.2.2.2.2.2.2.2.1 z.2.2.2.2.2.2.2.2.2.2.2.2.2.2.2.2.1 z.2.2.2.2.2.2.2.2.2.2.2.2.2.2.2.2.2.1 z.2.2.2.2.2.2.2.2.2.2.2.2.2.2.2.2.2.2.1 z.2.2.2.2.2.2.2.2.2.2.2.2.2.2.2.2.2.2.2.1 z.2.2.2.2.2.2.2.2.2.2.2.2.2.2.2.2.2.2.2.2.1 z.2.2.2.2.2.2.2.2.2.2.2.2.2.2.2.2.2.2.2.2.2.1 z.2.2.2.2.2.2.2.2.2.2.2.2.2.2.2.2.2.2.2.2.2.2.1 z.2.2.2.2.2.2.2.2.2.2.2.2.2.2.2.2.2.2.2.2.2.2.2.1 z.2.2.2.2.2.2.2.2.2.2.2.2.2.2.2.2.2.2.2.2.2.2.2.2) (fun z => z.1 ≤ 300 ∧ sq_SI z.2.1 ∧ sq_UI z.2.2) (fun z => 300 - z.1) ?_ (0, s, u) ⟨by show 0 ≤ 300; omega, hS, hU⟩
  rintro k ⟨i, s, u⟩ ⟨hi, hS, hU⟩ hw
  have hi' : i ≤ 300 := hi
  have hS' : sq_SI s := hS
  have hU' : sq_UI u := hU
  refine pk_le L (i + 1) (fun _ => ?_) (fun z => ⟨pk_in i L (by omega), pk_in (i + 1) L (by omega) (nI_1 i), ?_⟩) rfl (nI_1 i)
  · obtain ⟨⟨Q, hP⟩, hk⟩ := hS'
    have hV := (sq_pl_PL hP).1
    obtain ⟨n, f, n', f', hC⟩ := sq_Cn_ex hV
    have hn := sq_n512 hP hC
    have hsub : ∀ x, sq_mb n' f' x → sq_mb n f x := fun x hx => sq_sub hV hC hx
    have hnn := sq_le hC.2.2.1 hsub
    have hn1 : 1 ≤ n' := by
      obtain ⟨x, hx⟩ := sq_F3 true hV
      obtain ⟨j, hj, _⟩ := (hC.2.2.2 x).mpr hx
      omega
    refine sq_outcomes (u := s) hC ⟨hP, Or.inl hk⟩ (fun s1 g1 => ?_)
    refine sq_strictOutcomes (u := s1) hC (sq_Gd_WI g1) (fun s2 g2 => ?_)
    refine sq_surprise (u := s2) hC (sq_Gd_WI g2) (fun hA s3 g3 => ?_) (fun j hj hB s3 g3 => ?_)
    · have hnn' : n ≤ n' := sq_le hC.1 (fun x ⟨j, hj, e⟩ => e ▸ hA j hj)
      have enn : n = n' := by omega
      refine sq_fences (u := s3) hC (sq_Gd_WI g3) (fun _ s4 g4 => br_f (nI_nlt hnn (by omega)) (br_f (nI_nlt (b := 1) hn1 (by omega)) (br_t rfl ?_))) (fun ⟨j, hj, z⟩ => absurd (hA j hj) z)
      exact br_t rfl (br_t rfl (br_t rfl (br_t (by rw [enn]) (sq_l325 hC g4 hU' h))))
    · have hlt := sq_ltn hC.2.2.1 hsub hj hB
      have hfj := sq_Out_lt hV ((hC.2.1 _).mp ⟨j, hj, rfl⟩)
      have hne : ¬ nI (f j) = (-4) := fun e => nI_pos (show f j < 2 ^ 31 by omega) (by rw [e]; decide)
      refine sq_fences (u := s3) hC (sq_Gd_WI g3) (fun hA => absurd (hA j hj) hB) (fun _ b s4 b1 b2 g4 => br_f (nI_nlt hnn (by omega)) (br_f (nI_nlt (b := 1) hn1 (by omega)) (br_f hne ?_)))
      exact br_f (nI_ne0 (by omega) (by omega)) (br_t rfl (br_f hne (br_f (fun e => by have := (nI_eq (by omega) (by omega)).mp e; omega) (sq_l325 hC g4 hU' h))))
  · refine sq_turn (u := s) hS' (fun r s' hs' => ⟨pk_in i L (by omega), nm_e ⟨pk_in (i + 1) L (by omega) (nI_1 i), nm_e ?_⟩⟩)
    refine sq_thr _ (fun z => wL_law_83 post L xs (wL_law_21 post L xs 0 kc ks k) 0 (nI i) _ _ z kc ks s'.1 s'.2.1 s'.2.2.1 s'.2.2.2.1 s'.2.2.2.2.1 s'.2.2.2.2.2.1 s'.2.2.2.2.2.2.1 s'.2.2.2.2.2.2.2.1 s'.2.2.2.2.2.2.2.2.1 s'.2.2.2.2.2.2.2.2.2.1 s'.2.2.2.2.2.2.2.2.2.2.1 s'.2.2.2.2.2.2.2.2.2.2.2.1 s'.2.2.2.2.2.2.2.2.2.2.2.2.1 s'.2.2.2.2.2.2.2.2.2.2.2.2.2.1 s'.2.2.2.2.2.2.2.2.2.2.2.2.2.2.1 s'.2.2.2.2.2.2.2.2.2.2.2.2.2.2.2.1 s'.2.2.2.2.2.2.2.2.2.2.2.2.2.2.2.2.1 s'.2.2.2.2.2.2.2.2.2.2.2.2.2.2.2.2.2.1 s'.2.2.2.2.2.2.2.2.2.2.2.2.2.2.2.2.2.2.1 s'.2.2.2.2.2.2.2.2.2.2.2.2.2.2.2.2.2.2.2.1 s'.2.2.2.2.2.2.2.2.2.2.2.2.2.2.2.2.2.2.2.2.1 s'.2.2.2.2.2.2.2.2.2.2.2.2.2.2.2.2.2.2.2.2.2.1 s'.2.2.2.2.2.2.2.2.2.2.2.2.2.2.2.2.2.2.2.2.2.2 u.1 u.2.1 u.2.2.1 u.2.2.2.1 u.2.2.2.2.1 u.2.2.2.2.2.1 u.2.2.2.2.2.2.1 u.2.2.2.2.2.2.2.1 u.2.2.2.2.2.2.2.2.1 u.2.2.2.2.2.2.2.2.2.1 u.2.2.2.2.2.2.2.2.2.2.1 u.2.2.2.2.2.2.2.2.2.2.2.1 u.2.2.2.2.2.2.2.2.2.2.2.2.1 u.2.2.2.2.2.2.2.2.2.2.2.2.2.1 u.2.2.2.2.2.2.2.2.2.2.2.2.2.2.1 u.2.2.2.2.2.2.2.2.2.2.2.2.2.2.2.1 u.2.2.2.2.2.2.2.2.2.2.2.2.2.2.2.2.1 u.2.2.2.2.2.2.2.2.2.2.2.2.2.2.2.2.2.1 u.2.2.2.2.2.2.2.2.2.2.2.2.2.2.2.2.2.2.1 u.2.2.2.2.2.2.2.2.2.2.2.2.2.2.2.2.2.2.2.1 u.2.2.2.2.2.2.2.2.2.2.2.2.2.2.2.2.2.2.2.2.1 u.2.2.2.2.2.2.2.2.2.2.2.2.2.2.2.2.2.2.2.2.2.1 u.2.2.2.2.2.2.2.2.2.2.2.2.2.2.2.2.2.2.2.2.2.2) (fun t ht => ?_)
    exact sq_l83 hU' ht (fun u' hu' => hw (i + 2, s', u') ⟨by show i + 2 ≤ 300; omega, hs', hu'⟩ (by show 300 - (i + 2) < 300 - i; omega))
def sq_Q0 : sq_Q := (fun _ => 0, fun _ _ => 0, fun _ _ => 0, fun _ _ => 0)
theorem i_vc (xs : Nat → Int32) (L : Nat) (hL : L ≤ 260) : wpL_law (fun r => r = 1) L xs := by
  have p0 : ∀ a1 a2 a3 a4 : Nat → Int32, a1 = (fun _ => 0) → sq_Pr (0, a1, a2, a3, a4) sq_Q0 := by
    intro a1 a2 a3 a4 e
    rw [e]
    exact ⟨rfl, by decide, fun t ht => ⟨rfl, fun i hi => absurd hi (Nat.not_lt_zero _)⟩⟩
  refine ⟨16, 17688, by omega, by omega, ?_⟩
  refine ⟨by omega, by omega, by omega, by omega, by omega, by omega, by omega, by omega, by omega, by omega, by omega, by omega, by omega, by omega, by omega, by omega, by omega, by omega, by omega, by omega, by omega, by omega, by omega, by omega, by omega, by omega, by omega, by omega, by omega, by omega, by omega, by omega, ?_⟩
  refine ⟨by omega, by omega, 16, 17688, by omega, by omega, ?_⟩
  refine ⟨by omega, by omega, by omega, by omega, by omega, by omega, by omega, by omega, by omega, by omega, by omega, by omega, by omega, by omega, by omega, by omega, by omega, by omega, by omega, by omega, by omega, by omega, by omega, by omega, by omega, by omega, by omega, by omega, by omega, by omega, by omega, by omega, ?_⟩
  exact sq_l21 (s := (0, 0, 0, 0, 0, 0, 0, (fun _ => 0), (fun _ => 0), (fun _ => 0), (fun _ => 0), (fun _ => 0), (fun _ => 0), (fun _ => 0), (fun _ => 0), (fun _ => 0), (fun _ => 0), (fun _ => 0), (fun _ => 0), (fun _ => 0), (fun _ => 0), (fun _ => 0), (fun _ => 0))) (u := (0, 0, 0, 0, 0, 0, 0, (fun _ => 0), (fun _ => 0), (fun _ => 0), (fun _ => 0), (fun _ => 0), (fun _ => 0), (fun _ => 0), (fun _ => 0), (fun _ => 0), (fun _ => 0), (fun _ => 0), (fun _ => 0), (fun _ => 0), (fun _ => 0), (fun _ => 0), (fun _ => 0))) hL ⟨⟨sq_Q0, p0 _ _ _ _ rfl⟩, rfl⟩ ⟨⟨sq_Q0, p0 _ _ _ _ rfl, fun t _ i hi => absurd hi (Nat.not_lt_zero _)⟩, rfl⟩ rfl
end
