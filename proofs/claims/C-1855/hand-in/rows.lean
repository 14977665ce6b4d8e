section
theorem pk_us {f : Nat → Int32} {k : Nat} {x : Int32} : upd f k x k = x := if_pos rfl
theorem pk_un {f : Nat → Int32} {k j : Nat} {x : Int32} (h : j ≠ k) : upd f k x j = f j := if_neg h
theorem pk_sub {a b : Nat} (h : b ≤ a) : nI a - nI b = nI (a - b) := by
  obtain ⟨c, rfl⟩ : ∃ c, a = c + b := ⟨a - b, by omega⟩
  rw [← nI_add, Int32.add_sub_cancel, Nat.add_sub_cancel]
theorem pk_m1 (n : Nat) : nI (n + 1) + (-1) = nI n := by
  rw [← nI_1, Int32.add_assoc, show (1 : Int32) + (-1) = 0 from rfl, Int32.add_zero]
theorem pk_mul (a b : Nat) : nI a * nI b = nI (a * b) := (Int32.ofNat_mul a b).symm
theorem pk_div {a d : Nat} (ha : a < 2 ^ 31) (h0 : 0 < d) (hd : d < 2 ^ 31) : nI a / nI d = nI (a / d) := by
  apply Int32.toInt_inj.mp
  rw [lg_idiv_nonneg (by rw [nI_toInt ha]; omega) (by rw [nI_toInt hd]; omega), nI_toInt ha, nI_toInt hd, nI_toInt (Nat.lt_of_le_of_lt (Nat.div_le_self a d) ha)]
  first | rfl | exact (Int.natCast_ediv _ _).symm
theorem pk_rem {a d : Nat} (ha : a < 2 ^ 31) (h0 : 0 < d) (hd : d < 2 ^ 31) : nI a - nI a / nI d * nI d = nI (a % d) := by
  rw [pk_div ha h0 hd, pk_mul, pk_sub (Nat.div_mul_le_self a d)]
  exact congrArg nI (by have := Nat.div_add_mod' a d; omega)
theorem pk_sub_toInt {a b : Nat} (ha : a < 2 ^ 30) (hb : b < 2 ^ 30) : (nI a - nI b).toInt = (a : Int) - b := by
  rw [Int32.toInt_sub, nI_toInt (by omega), nI_toInt (by omega)]
  exact Int.bmod_eq_of_le (by omega) (by omega)
theorem pk_sneg {a b : Nat} (hb : b < 2 ^ 30) (h : a < b) : nI a - nI b < 0 := by
  rw [Int32.lt_iff_toInt_lt, pk_sub_toInt (by omega) hb, show (0 : Int32).toInt = 0 from by decide]
  omega
theorem pk_ix (x : Int32) {n : Nat} (hn : n < 2 ^ 31) : x < 0 ∨ nI n ≤ x ∨ ∃ j : Nat, j < n ∧ x = nI j := by
  by_cases h : x < 0
  · exact Or.inl h
  · obtain ⟨j, hj, rfl⟩ := nI_of h
    by_cases h2 : j < n
    · exact Or.inr (Or.inr ⟨j, h2, rfl⟩)
    · exact Or.inr (Or.inl (nI_le (by omega) hj))
theorem pk_le {x y : Int32} {A B : Prop} (a b : Nat) (f : a ≤ b → A) (g : b < a → B) (hx : x = nI a := by rfl) (hy : y = nI b := by rfl) (ha : a < 2 ^ 31 := by omega) (hb : b < 2 ^ 31 := by omega) : (x ≤ y → A) ∧ (¬ x ≤ y → B) := by
  subst hx hy
  rw [nI_leI ha hb]
  exact ⟨f, fun z => g (by omega)⟩
theorem pk_lt {x y : Int32} {A B : Prop} (a b : Nat) (f : a < b → A) (g : b ≤ a → B) (hx : x = nI a := by rfl) (hy : y = nI b := by rfl) (ha : a < 2 ^ 31 := by omega) (hb : b < 2 ^ 31 := by omega) : (x < y → A) ∧ (¬ x < y → B) := by
  subst hx hy
  rw [nI_ltI ha hb]
  exact ⟨f, fun z => g (by omega)⟩
theorem pk_eq {x y : Int32} {A B : Prop} (a b : Nat) (f : a = b → A) (g : a ≠ b → B) (hx : x = nI a := by rfl) (hy : y = nI b := by rfl) (ha : a < 2 ^ 31 := by omega) (hb : b < 2 ^ 31 := by omega) : (x = y → A) ∧ (¬ x = y → B) := by
  subst hx hy
  rw [nI_eq ha hb]
  exact ⟨f, g⟩
theorem pk_in {x : Int32} (n N : Nat) (h : n < N) (hx : x = nI n := by rfl) (hN : N < 2 ^ 31 := by omega) : vp_in x N := by
  subst hx
  exact vp_in_nI h hN
theorem pk_cl {x : Int32} (n : Nat) (hx : x = nI n := by rfl) (h : n < 2 ^ 31 := by omega) : x.toNatClampNeg = n := by
  subst hx
  exact nI_clamp h
theorem pk_tn {n : Nat} (h : n < 2 ^ 32) : (nI n).toBitVec.toNat = n := Nat.mod_eq_of_lt h
theorem pk_and (x : Int32) {m : Int32} (k : Nat) (hm : m.toBitVec.toNat = 2 ^ k - 1) : x &&& m = nI (x.toBitVec.toNat % 2 ^ k) := by
  apply Int32.toBitVec_inj.mp
  apply BitVec.eq_of_toNat_eq
  rw [Int32.toBitVec_and, BitVec.toNat_and, hm, Nat.and_two_pow_sub_one_eq_mod]
  show _ = (BitVec.ofNat 32 _).toNat
  rw [BitVec.toNat_ofNat]
  exact (Nat.mod_eq_of_lt (Nat.lt_of_le_of_lt (Nat.mod_le _ _) x.toBitVec.isLt)).symm
theorem pk_andN {n : Nat} (h : n < 2 ^ 32) {m : Int32} (k : Nat) (hm : m.toBitVec.toNat = 2 ^ k - 1) : nI n &&& m = nI (n % 2 ^ k) := by
  rw [pk_and _ k hm, pk_tn h]
theorem pk_shr (a s : Int32) (k : Nat) (hs : (s.toBitVec.smod 32).toNat = k) : (a >>> s).toInt = a.toInt >>> k := by
  show (a.toBitVec.sshiftRight (s.toBitVec.smod 32).toNat).toInt = _
  rw [hs, BitVec.toInt_sshiftRight]
  rfl
theorem pk_shrN {n : Nat} (h : n < 2 ^ 31) (s : Int32) (k : Nat) (hs : (s.toBitVec.smod 32).toNat = k) : nI n >>> s = nI (n / 2 ^ k) := by
  apply Int32.toInt_inj.mp
  have h2 : n / 2 ^ k ≤ n := Nat.div_le_self _ _
  rw [pk_shr _ _ k hs, nI_toInt h, nI_toInt (by omega), Int.shiftRight_eq_div_pow]
  rfl
theorem sb_m1 {p : Nat} (h : 0 < p) : nI p + (-1) = nI (p - 1) := by
  obtain ⟨q, rfl⟩ : ∃ q, p = q + 1 := ⟨p - 1, by omega⟩
  exact pk_m1 q
def bt (x : Int32) (i : Nat) : Bool := x.toBitVec.getLsbD i
theorem b_ext {x y : Int32} (h : ∀ i, i < 32 → bt x i = bt y i) : x = y := Int32.toBitVec_inj.mp (BitVec.eq_of_getLsbD_eq (fun i hi => h i hi))
theorem b_or (x y : Int32) (i : Nat) : bt (x ||| y) i = (bt x i || bt y i) := by unfold bt; rw [Int32.toBitVec_or, BitVec.getLsbD_or]
theorem b_and (x y : Int32) (i : Nat) : bt (x &&& y) i = (bt x i && bt y i) := by unfold bt; rw [Int32.toBitVec_and, BitVec.getLsbD_and]
theorem b_xor (x y : Int32) (i : Nat) : bt (x ^^^ y) i = (bt x i ^^ bt y i) := by unfold bt; rw [Int32.toBitVec_xor, BitVec.getLsbD_xor]
theorem b_big {x : Int32} {i : Nat} (h : 32 ≤ i) : bt x i = false := BitVec.getLsbD_of_ge _ _ h
theorem b_m1 : ∀ i, i < 32 → bt (-1) i = true := by decide +kernel
theorem b_0 (i : Nat) : bt 0 i = false := BitVec.getLsbD_zero
theorem s_l : ∀ n, n < 32 → ((nI n &&& 31).toBitVec.smod 32).toNat = n := by decide +kernel
theorem b_shl (n : Nat) (hn : n < 32) (x : Int32) {i : Nat} (hi : i < 32) : bt (x <<< (nI n &&& 31)) i = (decide (n ≤ i) && bt x (i - n)) := by
  unfold bt
  rw [Int32.toBitVec_shiftLeft]
  show (x.toBitVec <<< ((nI n &&& 31).toBitVec.smod 32).toNat).getLsbD i = _
  rw [s_l n hn, BitVec.getLsbD_shiftLeft]
  rcases Nat.lt_or_ge i n with h | h
  · simp [h, Nat.not_le.mpr h]
  · simp [hi, h, Nat.not_lt.mpr h]
theorem b_sshr (n : Nat) (hn : n < 32) (x : Int32) {i : Nat} (hi : i < 32) : bt (x >>> (nI n &&& 31)) i = if n + i < 32 then bt x (n + i) else bt x 31 := by
  unfold bt
  rw [Int32.toBitVec_shiftRight]
  show (x.toBitVec.sshiftRight ((nI n &&& 31).toBitVec.smod 32).toNat).getLsbD i = _
  rw [s_l n hn, BitVec.getLsbD_sshiftRight, BitVec.msb_eq_getLsbD_last]
  simp [hi]
theorem nx_and (a b : Nat) : nI a &&& nI b = nI (a &&& b) := by
  apply Int32.toBitVec_inj.1
  show BitVec.ofNat 32 a &&& BitVec.ofNat 32 b = BitVec.ofNat 32 (a &&& b)
  apply BitVec.eq_of_getLsbD_eq
  intro i hi
  simp [hi]
theorem nx_xor (a b : Nat) : nI a ^^^ nI b = nI (a ^^^ b) := by
  apply Int32.toBitVec_inj.1
  show BitVec.ofNat 32 a ^^^ BitVec.ofNat 32 b = BitVec.ofNat 32 (a ^^^ b)
  apply BitVec.eq_of_getLsbD_eq
  intro i hi
  simp [hi]
end
section
/-! counts of a Bool function below n; begins of lines; sums -/
def sf_cn (f : Nat → Bool) : Nat → Nat
  | 0 => 0
  | n + 1 => sf_cn f n + (if f n = true then 1 else 0)
theorem sf_cn_t {f : Nat → Bool} {n : Nat} (h : f n = true) : sf_cn f (n + 1) = sf_cn f n + 1 := by
  show sf_cn f n + (if f n = true then 1 else 0) = _
  rw [if_pos h]
theorem sf_cn_f {f : Nat → Bool} {n : Nat} (h : f n = false) : sf_cn f (n + 1) = sf_cn f n := by
  show sf_cn f n + (if f n = true then 1 else 0) = _
  rw [if_neg (by rw [h]; decide)]
  rfl
theorem sf_cn_le (f : Nat → Bool) : ∀ n, sf_cn f n ≤ n
  | 0 => Nat.le_refl _
  | n + 1 => by
    have := sf_cn_le f n
    cases h : f n with
    | true => rw [sf_cn_t h]; omega
    | false => rw [sf_cn_f h]; omega
theorem sf_cn_mono (f : Nat → Bool) {m : Nat} : ∀ n, m ≤ n → sf_cn f m ≤ sf_cn f n
  | 0, h => by
    have e : m = 0 := by omega
    rw [e]
    exact Nat.le_refl _
  | n + 1, h => by
    rcases Nat.lt_or_ge n m with z | z
    · have e : m = n + 1 := by omega
      rw [e]
      exact Nat.le_refl _
    · have := sf_cn_mono f n z
      cases e : f n with
      | true => rw [sf_cn_t e]; omega
      | false => rw [sf_cn_f e]; omega
theorem sf_cn_lt {f : Nat → Bool} {m n : Nat} (h : m < n) (hm : f m = true) : sf_cn f m < sf_cn f n := by
  have a := sf_cn_mono f (m := m + 1) n h
  rw [sf_cn_t hm] at a
  omega
theorem sf_cn_sel (f : Nat → Bool) : ∀ n q, q < sf_cn f n → ∃ p, p < n ∧ f p = true ∧ sf_cn f p = q
  | 0, q, h => absurd h (Nat.not_lt_zero q)
  | n + 1, q, h => by
    cases e : f n with
    | true =>
      rw [sf_cn_t e] at h
      by_cases z : q < sf_cn f n
      · obtain ⟨p, h1, h2, h3⟩ := sf_cn_sel f n q z
        exact ⟨p, by omega, h2, h3⟩
      · exact ⟨n, by omega, e, by omega⟩
    | false =>
      rw [sf_cn_f e] at h
      obtain ⟨p, h1, h2, h3⟩ := sf_cn_sel f n q h
      exact ⟨p, by omega, h2, h3⟩
theorem sf_cn_inj {f : Nat → Bool} {a b : Nat} (ha : f a = true) (hb : f b = true) (h : sf_cn f a = sf_cn f b) : a = b := by
  rcases Nat.lt_trichotomy a b with z | z | z
  · have := sf_cn_lt z ha; omega
  · exact z
  · have := sf_cn_lt z hb; omega
theorem sf_cn_congr {f g : Nat → Bool} : ∀ n, (∀ k, k < n → f k = g k) → sf_cn f n = sf_cn g n
  | 0, _ => rfl
  | n + 1, h => by
    have a := sf_cn_congr n (fun k hk => h k (by omega))
    have b := h n (by omega)
    show sf_cn f n + (if f n = true then 1 else 0) = sf_cn g n + (if g n = true then 1 else 0)
    rw [a, b]
theorem sf_cn_all {f : Nat → Bool} : ∀ n, (∀ k, k < n → f k = true) → sf_cn f n = n
  | 0, _ => rfl
  | n + 1, h => by rw [sf_cn_t (h n (by omega)), sf_cn_all n (fun k hk => h k (by omega))]
theorem sf_cn_none {f : Nat → Bool} : ∀ n, (∀ k, k < n → f k = false) → sf_cn f n = 0
  | 0, _ => rfl
  | n + 1, h => by rw [sf_cn_f (h n (by omega)), sf_cn_none n (fun k hk => h k (by omega))]
theorem sf_cn_pos {f : Nat → Bool} {k n : Nat} (hk : k < n) (h : f k = true) : 0 < sf_cn f n := by
  have := sf_cn_lt hk h; omega
def sf_bg (kl : Nat → Bool) (kp : Nat → Nat → Bool) (w : Nat) : Nat → Nat
  | 0 => 0
  | l + 1 => sf_bg kl kp w l + (if kl l = true then sf_cn (kp l) w else 0)
theorem sf_bg_t {kl : Nat → Bool} {kp : Nat → Nat → Bool} {w l : Nat} (h : kl l = true) : sf_bg kl kp w (l + 1) = sf_bg kl kp w l + sf_cn (kp l) w := by
  show sf_bg kl kp w l + (if kl l = true then sf_cn (kp l) w else 0) = _
  rw [if_pos h]
theorem sf_bg_f {kl : Nat → Bool} {kp : Nat → Nat → Bool} {w l : Nat} (h : kl l = false) : sf_bg kl kp w (l + 1) = sf_bg kl kp w l := by
  show sf_bg kl kp w l + (if kl l = true then sf_cn (kp l) w else 0) = _
  rw [if_neg (by rw [h]; decide)]
  rfl
theorem sf_bg_le (kl : Nat → Bool) (kp : Nat → Nat → Bool) (w : Nat) : ∀ l, sf_bg kl kp w l ≤ l * w
  | 0 => Nat.zero_le _
  | l + 1 => by
    have a := sf_bg_le kl kp w l
    have b := sf_cn_le (kp l) w
    have e : (l + 1) * w = l * w + w := Nat.succ_mul l w
    cases h : kl l with
    | true => rw [sf_bg_t h]; omega
    | false => rw [sf_bg_f h]; omega
theorem sf_bg_mono (kl : Nat → Bool) (kp : Nat → Nat → Bool) (w : Nat) {m : Nat} : ∀ n, m ≤ n → sf_bg kl kp w m ≤ sf_bg kl kp w n
  | 0, h => by
    have e : m = 0 := by omega
    rw [e]
    exact Nat.le_refl _
  | n + 1, h => by
    rcases Nat.lt_or_ge n m with z | z
    · have e : m = n + 1 := by omega
      rw [e]
      exact Nat.le_refl _
    · have a := sf_bg_mono kl kp w n z
      cases e : kl n with
      | true => rw [sf_bg_t e]; omega
      | false => rw [sf_bg_f e]; omega
theorem sf_bg_36 (kl : Nat → Bool) (kp : Nat → Nat → Bool) {w l : Nat} (hw : w ≤ 6) (hl : l ≤ 6) : sf_bg kl kp w l ≤ 36 :=
  Nat.le_trans (sf_bg_le kl kp w l) (Nat.mul_le_mul hl hw)
/-- the end of a kept line lies within all -/
theorem sf_bg_end {kl : Nat → Bool} {kp : Nat → Nat → Bool} {w l C : Nat} (hl : l < C) (h : kl l = true) : sf_bg kl kp w l + sf_cn (kp l) w ≤ sf_bg kl kp w C := by
  have a := sf_bg_mono kl kp w (m := l + 1) C hl
  rw [sf_bg_t h] at a
  exact a
theorem sf_bg_congr {kl kl' : Nat → Bool} {kp kp' : Nat → Nat → Bool} {w : Nat} : ∀ n, (∀ l, l < n → kl l = kl' l) → (∀ l p, l < n → p < w → kp l p = kp' l p) → sf_bg kl kp w n = sf_bg kl' kp' w n
  | 0, _, _ => rfl
  | n + 1, h, h2 => by
    have a := sf_bg_congr n (fun l hl => h l (by omega)) (fun l p hl hp => h2 l p (by omega) hp)
    have b := h n (by omega)
    have c : sf_cn (kp n) w = sf_cn (kp' n) w := sf_cn_congr w (fun p hp => h2 n p (by omega) hp)
    show sf_bg kl kp w n + (if kl n = true then sf_cn (kp n) w else 0) = sf_bg kl' kp' w n + (if kl' n = true then sf_cn (kp' n) w else 0)
    rw [a, b, c]
/-- whether a function is other than 0 somewhere below n -/
def sf_any (f : Nat → Int32) : Nat → Bool
  | 0 => false
  | n + 1 => sf_any f n || decide (¬ f n = 0)
theorem sf_any_f {f : Nat → Int32} : ∀ n, sf_any f n = false → ∀ p, p < n → f p = 0
  | 0, _, p, hp => absurd hp (Nat.not_lt_zero p)
  | n + 1, h, p, hp => by
    have h' : (sf_any f n || decide (¬ f n = 0)) = false := h
    rw [Bool.or_eq_false_iff] at h'
    by_cases z : p < n
    · exact sf_any_f n h'.1 p z
    · have e : p = n := by omega
      rw [e]
      have := of_decide_eq_false h'.2
      exact Classical.byContradiction this
theorem sf_any_z {f : Nat → Int32} : ∀ n, (∀ p, p < n → f p = 0) → sf_any f n = false
  | 0, _ => rfl
  | n + 1, h => by
    show (sf_any f n || decide (¬ f n = 0)) = false
    rw [sf_any_z n (fun p hp => h p (by omega)), h n (by omega)]
    rfl
theorem sf_any_t {f : Nat → Int32} {p n : Nat} (hp : p < n) (h : f p ≠ 0) : sf_any f n = true := by
  cases e : sf_any f n with
  | true => rfl
  | false => exact absurd (sf_any_f n e p hp) h
theorem sf_any_congr {f g : Nat → Int32} : ∀ n, (∀ k, k < n → f k = g k) → sf_any f n = sf_any g n
  | 0, _ => rfl
  | n + 1, h => by
    show (sf_any f n || decide (¬ f n = 0)) = (sf_any g n || decide (¬ g n = 0))
    rw [sf_any_congr n (fun k hk => h k (by omega)), h n (by omega)]
def sf_b (b : Bool) : Int32 := if b = true then 1 else 0
theorem sf_b_n (b : Bool) : narrow .boolean (.int (sf_b b)) = .int (sf_b b) := by cases b <;> rfl
/-! indices -/
theorem sf_36 (s e : Nat) : (36 : Int32) * nI s + nI e = nI (36 * s + e) := by
  show nI 36 * nI s + nI e = _
  rw [pk_mul, nI_add]
theorem sf_6 (s e : Nat) : (6 : Int32) * nI s + nI e = nI (6 * s + e) := by
  show nI 6 * nI s + nI e = _
  rw [pk_mul, nI_add]
theorem sf_7 (s e : Nat) : (7 : Int32) * nI s + nI e = nI (7 * s + e) := by
  show nI 7 * nI s + nI e = _
  rw [pk_mul, nI_add]
theorem sf_6m (e : Nat) : (6 : Int32) * nI e = nI (6 * e) := by
  show nI 6 * nI e = _
  rw [pk_mul]
theorem sf_36m (e : Nat) : (36 : Int32) * nI e = nI (36 * e) := by
  show nI 36 * nI e = _
  rw [pk_mul]
theorem sf_a6 (e : Nat) : (6 : Int32) + nI e = nI (6 + e) := nI_add 6 e
theorem sf_366 (s i j : Nat) : (36 : Int32) * nI s + 6 * nI i + nI j = nI (36 * s + (6 * i + j)) := by
  rw [sf_6m, sf_36, nI_add]
  exact congrArg nI (by omega)
theorem sf_71 (s e : Nat) : (7 : Int32) * nI s + nI e + 1 = nI (7 * s + (e + 1)) := by
  rw [sf_7, nI_1]
  exact congrArg nI (by omega)
theorem sf_hl {hi lo : Nat} (h : hi ≤ lo) (hlo : lo < 2 ^ 30) : nI hi - 1 < nI lo := by
  rw [Int32.lt_iff_toInt_lt, show (1 : Int32) = nI 1 from rfl, pk_sub_toInt (by omega) (by omega), nI_toInt (by omega)]
  omega
/-- a write at k is seen below -/
theorem sf_up {f : Nat → Int32} {k : Nat} {x : Int32} (j : Nat) : upd f k x j = if j = k then x else f j := rfl
/-- sums of Int32 -/
def sf_sm (f : Nat → Int32) : Nat → Int32
  | 0 => 0
  | n + 1 => sf_sm f n + f n
theorem sf_sm_congr {f g : Nat → Int32} : ∀ n, (∀ k, k < n → f k = g k) → sf_sm f n = sf_sm g n
  | 0, _ => rfl
  | n + 1, h => by
    show sf_sm f n + f n = sf_sm g n + g n
    rw [sf_sm_congr n (fun k hk => h k (by omega)), h n (by omega)]
theorem sf_sm_0 {f : Nat → Int32} : ∀ n, (∀ k, k < n → f k = 0) → sf_sm f n = 0
  | 0, _ => rfl
  | n + 1, h => by
    show sf_sm f n + f n = 0
    rw [sf_sm_0 n (fun k hk => h k (by omega)), h n (by omega)]
    rfl
theorem sf_a4 (a b c d : Int32) : (a + b) + (c + d) = (a + c) + (b + d) := by
  rw [Int32.add_assoc, Int32.add_assoc, ← Int32.add_assoc b, Int32.add_comm b c, Int32.add_assoc c]
theorem sf_sm_add (f g : Nat → Int32) : ∀ n, sf_sm (fun k => f k + g k) n = sf_sm f n + sf_sm g n
  | 0 => rfl
  | n + 1 => by
    show sf_sm (fun k => f k + g k) n + (f n + g n) = (sf_sm f n + f n) + (sf_sm g n + g n)
    rw [sf_sm_add f g n, sf_a4]
theorem sf_sm_swap (f : Nat → Nat → Int32) (m : Nat) : ∀ n, sf_sm (fun i => sf_sm (f i) m) n = sf_sm (fun j => sf_sm (fun i => f i j) n) m
  | 0 => (sf_sm_0 m (fun _ _ => rfl)).symm
  | n + 1 => by
    show sf_sm (fun i => sf_sm (f i) m) n + sf_sm (f n) m = sf_sm (fun j => sf_sm (fun i => f i j) n + f n j) m
    rw [sf_sm_add, sf_sm_swap f m n]
/-- sums of naturals -/
def sf_sn (f : Nat → Nat) : Nat → Nat
  | 0 => 0
  | n + 1 => sf_sn f n + f n
theorem sf_sn_congr {f g : Nat → Nat} : ∀ n, (∀ k, k < n → f k = g k) → sf_sn f n = sf_sn g n
  | 0, _ => rfl
  | n + 1, h => by
    show sf_sn f n + f n = sf_sn g n + g n
    rw [sf_sn_congr n (fun k hk => h k (by omega)), h n (by omega)]
theorem sf_sn_add (f g : Nat → Nat) : ∀ n, sf_sn (fun k => f k + g k) n = sf_sn f n + sf_sn g n
  | 0 => rfl
  | n + 1 => by
    show sf_sn (fun k => f k + g k) n + (f n + g n) = (sf_sn f n + f n) + (sf_sn g n + g n)
    rw [sf_sn_add f g n]
    omega
theorem sf_sn_0 : ∀ n, sf_sn (fun _ => 0) n = 0
  | 0 => rfl
  | n + 1 => by
    show sf_sn (fun _ => 0) n + 0 = 0
    rw [sf_sn_0 n]
theorem sf_sn_le {f : Nat → Nat} {m : Nat} : ∀ n, (∀ k, k < n → f k ≤ m) → sf_sn f n ≤ n * m
  | 0, _ => Nat.zero_le _
  | n + 1, h => by
    have a := sf_sn_le n (fun k hk => h k (by omega))
    have b := h n (by omega)
    have e : (n + 1) * m = n * m + m := Nat.succ_mul n m
    show sf_sn f n + f n ≤ _
    omega
theorem sf_cn_sn (f : Nat → Bool) : ∀ n, sf_cn f n = sf_sn (fun k => if f k = true then 1 else 0) n
  | 0 => rfl
  | n + 1 => by
    show sf_cn f n + _ = sf_sn (fun k => if f k = true then 1 else 0) n + _
    rw [sf_cn_sn f n]
theorem sf_sn_swap (f : Nat → Nat → Nat) (m : Nat) : ∀ n, sf_sn (fun i => sf_sn (f i) m) n = sf_sn (fun j => sf_sn (fun i => f i j) n) m
  | 0 => (sf_sn_0 m).symm
  | n + 1 => by
    show sf_sn (fun i => sf_sn (f i) m) n + sf_sn (f n) m = sf_sn (fun j => sf_sn (fun i => f i j) n + f n j) m
    rw [sf_sn_add, sf_sn_swap f m n]
end
section
/-! a slot of X: its head, its numbers packed by lines -/
def sf_Shp (R N M F : Nat) : Prop := (R = 0 ∧ N = 1 ∧ M = 1 ∧ F = 0) ∨ (R = 1 ∧ 1 ≤ N ∧ N ≤ 6 ∧ M = 1 ∧ F ≤ 1) ∨ (R = 2 ∧ 1 ≤ N ∧ N ≤ 6 ∧ 1 ≤ M ∧ M ≤ 6 ∧ F ≤ 7)
def sf_LC (R N M F : Nat) : Nat := if R < 2 then 1 else if 4 ≤ F then M else N
def sf_LL (R N M F : Nat) : Nat := if R < 2 then N else if 4 ≤ F then N else M
def sf_ix (R F l p : Nat) : Nat := if R < 2 then 6 * p else if 4 ≤ F then 6 * p + l else 6 * l + p
def sf_sl (R F : Nat) : Bool := decide (R = 2 ∧ F / 2 % 2 = 1)
def sf_sp (R F : Nat) : Bool := decide (0 < R ∧ F % 2 = 1)
theorem sf_dims {R N M F : Nat} (h : sf_Shp R N M F) : (R < 2 ∧ sf_LC R N M F = 1 ∧ sf_LL R N M F = N) ∨ (R = 2 ∧ F < 4 ∧ sf_LC R N M F = N ∧ sf_LL R N M F = M) ∨ (R = 2 ∧ 4 ≤ F ∧ sf_LC R N M F = M ∧ sf_LL R N M F = N) := by
  unfold sf_Shp at h
  unfold sf_LC sf_LL
  by_cases a : R < 2
  · rw [if_pos a, if_pos a]
    exact Or.inl ⟨a, rfl, rfl⟩
  · rw [if_neg a, if_neg a]
    by_cases b : 4 ≤ F
    · rw [if_pos b, if_pos b]
      exact Or.inr (Or.inr ⟨by omega, b, rfl, rfl⟩)
    · rw [if_neg b, if_neg b]
      exact Or.inr (Or.inl ⟨by omega, by omega, rfl, rfl⟩)
theorem sf_dimb {R N M F : Nat} (h : sf_Shp R N M F) : 1 ≤ sf_LC R N M F ∧ sf_LC R N M F ≤ 6 ∧ 1 ≤ sf_LL R N M F ∧ sf_LL R N M F ≤ 6 := by
  have d := sf_dims h
  unfold sf_Shp at h
  omega
theorem sf_shb {R N M F : Nat} (h : sf_Shp R N M F) : R ≤ 2 ∧ 1 ≤ N ∧ N ≤ 6 ∧ 1 ≤ M ∧ M ≤ 6 ∧ F ≤ 7 := by
  unfold sf_Shp at h
  omega
theorem sf_ixs (R F l p : Nat) : (R < 2 ∧ sf_ix R F l p = 6 * p) ∨ (2 ≤ R ∧ 4 ≤ F ∧ sf_ix R F l p = 6 * p + l) ∨ (2 ≤ R ∧ F < 4 ∧ sf_ix R F l p = 6 * l + p) := by
  unfold sf_ix
  by_cases a : R < 2
  · rw [if_pos a]
    exact Or.inl ⟨a, rfl⟩
  · rw [if_neg a]
    by_cases b : 4 ≤ F
    · rw [if_pos b]
      exact Or.inr (Or.inl ⟨by omega, b, rfl⟩)
    · rw [if_neg b]
      exact Or.inr (Or.inr ⟨by omega, by omega, rfl⟩)
theorem sf_ix36 {R N M F l p : Nat} (h : sf_Shp R N M F) (hl : l < sf_LC R N M F) (hp : p < sf_LL R N M F) : sf_ix R F l p < 36 := by
  have d := sf_dimb h
  have i := sf_ixs R F l p
  omega
theorem sf_ix_ex {R N M F i j : Nat} (h : sf_Shp R N M F) (hi : i < N) (hj : j < M) : ∃ l p, l < sf_LC R N M F ∧ p < sf_LL R N M F ∧ sf_ix R F l p = 6 * i + j := by
  have d := sf_dims h
  rcases d with d | d | d
  · refine ⟨0, i, by omega, by omega, ?_⟩
    have e := sf_ixs R F 0 i
    unfold sf_Shp at h
    omega
  · refine ⟨i, j, by omega, by omega, ?_⟩
    have e := sf_ixs R F i j
    omega
  · refine ⟨j, i, by omega, by omega, ?_⟩
    have e := sf_ixs R F j i
    omega
theorem sf_ix_inj {R N M F l p l' p' : Nat} (h : sf_Shp R N M F) (hl : l < sf_LC R N M F) (hp : p < sf_LL R N M F) (hl' : l' < sf_LC R N M F) (hp' : p' < sf_LL R N M F) (e : sf_ix R F l p = sf_ix R F l' p') : l = l' ∧ p = p' := by
  have d := sf_dims h
  have b := sf_dimb h
  have i := sf_ixs R F l p
  have i' := sf_ixs R F l' p'
  omega
def sf_kp (R F : Nat) (c : Nat → Int32) (l p : Nat) : Bool := !(sf_sp R F) || decide (¬ c (sf_ix R F l p) = 0)
def sf_kl (R N M F : Nat) (c : Nat → Int32) (l : Nat) : Bool := !(sf_sl R F) || sf_any (fun p => c (sf_ix R F l p)) (sf_LL R N M F)
theorem sf_kp_f {R F l p : Nat} {c : Nat → Int32} (h : sf_kp R F c l p = false) : c (sf_ix R F l p) = 0 := by
  unfold sf_kp at h
  rw [Bool.or_eq_false_iff] at h
  exact Classical.byContradiction (of_decide_eq_false h.2)
theorem sf_kl_f {R N M F l p : Nat} {c : Nat → Int32} (h : sf_kl R N M F c l = false) (hp : p < sf_LL R N M F) : c (sf_ix R F l p) = 0 := by
  unfold sf_kl at h
  rw [Bool.or_eq_false_iff] at h
  exact sf_any_f _ h.2 p hp
def sf_PK (s : Nat) (ql qa qb qp qn : Nat → Int32) (C W : Nat) (kl : Nat → Bool) (kp : Nat → Nat → Bool) (g : Nat → Nat → Int32) : Prop :=
  ql s = nI (sf_cn kl C) ∧ (∀ l, l ≤ C → qb (7 * s + sf_cn kl l) = nI (sf_bg kl kp W l)) ∧
  ∀ l, l < C → kl l = true → qa (6 * s + sf_cn kl l) = nI l ∧ ∀ p, p < W → kp l p = true → qp (36 * s + (sf_bg kl kp W l + sf_cn (kp l) p)) = nI p ∧ qn (36 * s + (sf_bg kl kp W l + sf_cn (kp l) p)) = g l p
def sf_HD (s : Nat) (qk qr qc qf : Nat → Int32) (R N M F : Nat) : Prop := qk s = nI R ∧ qr s = nI N ∧ qc s = nI M ∧ qf s = nI F ∧ sf_Shp R N M F
def sf_XS (s : Nat) (qk qr qc qf ql qa qb qp qn : Nat → Int32) (R N M F : Nat) (c : Nat → Int32) : Prop :=
  sf_HD s qk qr qc qf R N M F ∧ sf_PK s ql qa qb qp qn (sf_LC R N M F) (sf_LL R N M F) (sf_kl R N M F c) (sf_kp R F c) (fun l p => c (sf_ix R F l p))
def sf_E5 (t : Nat) (ql qa qb qp qn ql' qa' qb' qp' qn' : Nat → Int32) : Prop :=
  ql' t = ql t ∧ (∀ k, k < 6 → qa' (6 * t + k) = qa (6 * t + k)) ∧ (∀ k, k < 7 → qb' (7 * t + k) = qb (7 * t + k)) ∧ (∀ k, k < 36 → qp' (36 * t + k) = qp (36 * t + k) ∧ qn' (36 * t + k) = qn (36 * t + k))
def sf_EQ (t : Nat) (qk qr qc qf ql qa qb qp qn qk' qr' qc' qf' ql' qa' qb' qp' qn' : Nat → Int32) : Prop :=
  qk' t = qk t ∧ qr' t = qr t ∧ qc' t = qc t ∧ qf' t = qf t ∧ sf_E5 t ql qa qb qp qn ql' qa' qb' qp' qn'
def sf_Fr (s : Nat) (qk qr qc qf ql qa qb qp qn qk' qr' qc' qf' ql' qa' qb' qp' qn' : Nat → Int32) : Prop :=
  ∀ t, t < 13 → t ≠ s → sf_EQ t qk qr qc qf ql qa qb qp qn qk' qr' qc' qf' ql' qa' qb' qp' qn'
section
variable {ql qa qb qp qn ql' qa' qb' qp' qn' : Nat → Int32} {s C W : Nat} {kl kl' : Nat → Bool} {kp kp' : Nat → Nat → Bool} {g g' : Nat → Nat → Int32}
theorem sf_pos {l p : Nat} (hl : l < C) (h : kl l = true) (hp : p < W) (hk : kp l p = true) : sf_bg kl kp W l + sf_cn (kp l) p < sf_bg kl kp W C := by
  have a := sf_bg_end (kp := kp) (w := W) hl h
  have b := sf_cn_lt hp hk
  omega
theorem sf_pos36 {l p : Nat} (hC : C ≤ 6) (hW : W ≤ 6) (hl : l < C) (h : kl l = true) (hp : p < W) (hk : kp l p = true) : sf_bg kl kp W l + sf_cn (kp l) p < 36 := by
  have a := sf_pos hl h hp hk
  have b := sf_bg_36 kl kp hW hC
  omega
theorem sf_pos_inj {l p l' p' : Nat} (hl : l < C) (h : kl l = true) (hp : p < W) (hk : kp l p = true) (hl' : l' < C) (h' : kl l' = true) (hp' : p' < W) (hk' : kp l' p' = true)
    (e : sf_bg kl kp W l + sf_cn (kp l) p = sf_bg kl kp W l' + sf_cn (kp l') p') : l = l' ∧ p = p' := by
  rcases Nat.lt_trichotomy l l' with z | z | z
  · have a := sf_pos z h hp hk
    omega
  · subst z
    exact ⟨rfl, sf_cn_inj hk hk' (by omega)⟩
  · have a := sf_pos z h' hp' hk'
    omega
theorem sf_PK_tr (P : sf_PK s ql qa qb qp qn C W kl kp g) (hC : C ≤ 6) (hW : W ≤ 6) (E : sf_E5 s ql qa qb qp qn ql' qa' qb' qp' qn')
    (hkl : ∀ l, l < C → kl' l = kl l) (hkp : ∀ l p, l < C → p < W → kp' l p = kp l p) (hg : ∀ l p, l < C → p < W → g' l p = g l p) : sf_PK s ql' qa' qb' qp' qn' C W kl' kp' g' := by
  obtain ⟨h1, h2, h3⟩ := P
  obtain ⟨e1, e2, e3, e4⟩ := E
  have hcn : ∀ l, l ≤ C → sf_cn kl' l = sf_cn kl l := fun l hl => sf_cn_congr l (fun k hk => hkl k (by omega))
  have hbg : ∀ l, l ≤ C → sf_bg kl' kp' W l = sf_bg kl kp W l := fun l hl => sf_bg_congr l (fun k hk => hkl k (by omega)) (fun k p hk hp => hkp k p (by omega) hp)
  refine ⟨?_, ?_, ?_⟩
  · rw [e1, h1, hcn C (Nat.le_refl _)]
  · intro l hl
    have b := sf_cn_le kl l
    rw [hcn l hl, hbg l hl, e3 _ (by omega)]
    exact h2 l hl
  · intro l hl hk
    rw [hkl l hl] at hk
    obtain ⟨a1, a2⟩ := h3 l hl hk
    have b := sf_cn_lt hl hk
    have b2 := sf_cn_le kl C
    rw [hcn l (by omega), hbg l (by omega), e2 _ (by omega)]
    refine ⟨a1, fun p hp hq => ?_⟩
    rw [hkp l p hl hp] at hq
    have ec : sf_cn (kp' l) p = sf_cn (kp l) p := sf_cn_congr p (fun k hk2 => hkp l k hl (by omega))
    have q := sf_pos36 hC hW hl hk hp hq
    rw [ec, (e4 _ q).1, (e4 _ q).2, hg l p hl hp]
    exact a2 p hp hq
end
theorem sf_XS_tr {t R N M F : Nat} {c c' qk qr qc qf ql qa qb qp qn qk' qr' qc' qf' ql' qa' qb' qp' qn' : Nat → Int32} (X : sf_XS t qk qr qc qf ql qa qb qp qn R N M F c) (E : sf_EQ t qk qr qc qf ql qa qb qp qn qk' qr' qc' qf' ql' qa' qb' qp' qn')
    (hc : ∀ k, k < 36 → c' k = c k) : sf_XS t qk' qr' qc' qf' ql' qa' qb' qp' qn' R N M F c' := by
  obtain ⟨⟨e1, e2, e3, e4, hS⟩, P⟩ := X
  obtain ⟨q1, q2, q3, q4, E5⟩ := E
  have d := sf_dimb hS
  have hg : ∀ l p, l < sf_LC R N M F → p < sf_LL R N M F → c' (sf_ix R F l p) = c (sf_ix R F l p) := fun l p hl hp => hc _ (sf_ix36 hS hl hp)
  refine ⟨⟨q1.trans e1, q2.trans e2, q3.trans e3, q4.trans e4, hS⟩, sf_PK_tr P d.2.1 d.2.2.2 E5 ?_ ?_ hg⟩
  · intro l hl
    unfold sf_kl
    rw [sf_any_congr _ (fun p hp => hg l p hl hp)]
  · intro l p hl hp
    unfold sf_kp
    rw [hg l p hl hp]
theorem sf_E5_rf (t : Nat) (ql qa qb qp qn : Nat → Int32) : sf_E5 t ql qa qb qp qn ql qa qb qp qn := ⟨rfl, fun _ _ => rfl, fun _ _ => rfl, fun _ _ => ⟨rfl, rfl⟩⟩
theorem sf_EQ_rf (t : Nat) (qk qr qc qf ql qa qb qp qn : Nat → Int32) : sf_EQ t qk qr qc qf ql qa qb qp qn qk qr qc qf ql qa qb qp qn := ⟨rfl, rfl, rfl, rfl, sf_E5_rf t ql qa qb qp qn⟩
/-- numbers out of the shape are 0 -/
def sf_Z (N M : Nat) (c : Nat → Int32) : Prop := ∀ i j, i < 6 → j < 6 → ¬ (i < N ∧ j < M) → c (6 * i + j) = 0
/-- the bits of a format -/
theorem sf_f2 : ∀ F, F < 8 → (nI F &&& 2 = 0 ↔ F / 2 % 2 = 0) := by decide +kernel
theorem sf_f1 : ∀ F, F < 8 → (nI F &&& 1 = 0 ↔ F % 2 = 0) := by decide +kernel
theorem sf_f4 : ∀ F, F < 8 → nI F ^^^ 4 = nI (if 4 ≤ F then F - 4 else F + 4) := by decide +kernel
theorem sf_sl_t {R F : Nat} (hF : F ≤ 7) (h2 : R = 2) (h : ¬ nI F &&& 2 = 0) : sf_sl R F = true := by
  rw [sf_f2 F (by omega)] at h
  exact decide_eq_true ⟨h2, by omega⟩
theorem sf_sl_f {R F : Nat} (hF : F ≤ 7) (h : nI F &&& 2 = 0) : sf_sl R F = false := by
  rw [sf_f2 F (by omega)] at h
  exact decide_eq_false (by omega)
theorem sf_sl_r {R F : Nat} (h : R ≠ 2) : sf_sl R F = false := decide_eq_false (fun z => h z.1)
theorem sf_sp_t {R F : Nat} (hF : F ≤ 7) (h2 : 0 < R) (h : ¬ nI F &&& 1 = 0) : sf_sp R F = true := by
  rw [sf_f1 F (by omega)] at h
  exact decide_eq_true ⟨h2, by omega⟩
theorem sf_sp_f {R F : Nat} (hF : F ≤ 7) (h : nI F &&& 1 = 0) : sf_sp R F = false := by
  rw [sf_f1 F (by omega)] at h
  exact decide_eq_false (by omega)
theorem sf_sp_r {R F : Nat} (h : R = 0) : sf_sp R F = false := decide_eq_false (fun z => by omega)
end
section
section
variable {f_parts f_arrays f_height f_loops : Int32} {a_rankOf a_rows a_columns a_formatOf a_lines a_lineAt a_lineBegin a_placeAt a_numberAt a_kind a_number a_partA a_partB a_indexA a_indexB a_stack a_inside a_plain a_loopIndex a_spanOf a_lineIndex a_placeIndex a_atLine a_atPlace a_support a_value a_now a_left : Nat → Int32}
theorem sf_isTurned {post : Int32 → Prop} {s R N M F : Nat} (hs : s < 13) (H : sf_HD s a_rankOf a_rows a_columns a_formatOf R N M F) (h1 : R = 2 → 4 ≤ F → post 1) (h0 : ¬ (R = 2 ∧ 4 ≤ F) → post 0) : wpX_isTurned post (f_parts, f_arrays, f_height, f_loops, a_rankOf, a_rows, a_columns, a_formatOf, a_lines, a_lineAt, a_lineBegin, a_placeAt, a_numberAt, a_kind, a_number, a_partA, a_partB, a_indexA, a_indexB, a_stack, a_inside, a_plain, a_loopIndex, a_spanOf, a_lineIndex, a_placeIndex, a_atLine, a_atPlace, a_support, a_value, a_now, a_left) (nI s) := by
  obtain ⟨e1, e2, e3, e4, hS⟩ := H
  have hc : (nI s).toNatClampNeg = s := nI_clamp (by omega)
  have hi : vp_in (nI s) 13 := vp_in_nI hs (by omega)
  have hb := sf_shb hS
  unfold wpX_isTurned
  dsimp only
  rw [hc, e1, e4]
  exact ⟨hi, pk_eq R 2 (fun a => ⟨hi, pk_lt F 4 (fun b => h0 (by omega)) (fun b => h1 a b)⟩) (fun a => h0 (by omega))⟩
theorem sf_lineCount {post : Int32 → Prop} {s R N M F : Nat} (hs : s < 13) (H : sf_HD s a_rankOf a_rows a_columns a_formatOf R N M F) (h : post (nI (sf_LC R N M F))) : wpX_lineCount post (f_parts, f_arrays, f_height, f_loops, a_rankOf, a_rows, a_columns, a_formatOf, a_lines, a_lineAt, a_lineBegin, a_placeAt, a_numberAt, a_kind, a_number, a_partA, a_partB, a_indexA, a_indexB, a_stack, a_inside, a_plain, a_loopIndex, a_spanOf, a_lineIndex, a_placeIndex, a_atLine, a_atPlace, a_support, a_value, a_now, a_left) (nI s) := by
  have H' := H
  obtain ⟨e1, e2, e3, e4, hS⟩ := H
  have hc : (nI s).toNatClampNeg = s := nI_clamp (by omega)
  have hi : vp_in (nI s) 13 := vp_in_nI hs (by omega)
  have hb := sf_shb hS
  have hd := sf_dims hS
  unfold wpX_lineCount
  dsimp only
  rw [hc, e1, e2, e3]
  refine ⟨hi, pk_le 2 R (fun a => sf_isTurned hs H' (fun b1 b2 => br_f (by decide) ⟨hi, ?_⟩) (fun b => br_t rfl ⟨hi, ?_⟩)) (fun a => ?_)⟩
  · have e : sf_LC R N M F = M := by omega
    rw [e] at h
    exact h
  · have e : sf_LC R N M F = N := by omega
    rw [e] at h
    exact h
  · have e : sf_LC R N M F = 1 := by omega
    rw [e] at h
    exact h
theorem sf_lineLength {post : Int32 → Prop} {s R N M F : Nat} (hs : s < 13) (H : sf_HD s a_rankOf a_rows a_columns a_formatOf R N M F) (h : post (nI (sf_LL R N M F))) : wpX_lineLength post (f_parts, f_arrays, f_height, f_loops, a_rankOf, a_rows, a_columns, a_formatOf, a_lines, a_lineAt, a_lineBegin, a_placeAt, a_numberAt, a_kind, a_number, a_partA, a_partB, a_indexA, a_indexB, a_stack, a_inside, a_plain, a_loopIndex, a_spanOf, a_lineIndex, a_placeIndex, a_atLine, a_atPlace, a_support, a_value, a_now, a_left) (nI s) := by
  have H' := H
  obtain ⟨e1, e2, e3, e4, hS⟩ := H
  have hc : (nI s).toNatClampNeg = s := nI_clamp (by omega)
  have hi : vp_in (nI s) 13 := vp_in_nI hs (by omega)
  have hb := sf_shb hS
  have hd := sf_dims hS
  unfold wpX_lineLength
  dsimp only
  rw [hc, e1, e2, e3]
  refine ⟨hi, pk_le 2 R (fun a => sf_isTurned hs H' (fun b1 b2 => br_f (by decide) ⟨hi, ?_⟩) (fun b => br_t rfl ⟨hi, ?_⟩)) (fun a => ⟨hi, ?_⟩)⟩
  · have e : sf_LL R N M F = N := by omega
    rw [e] at h
    exact h
  · have e : sf_LL R N M F = M := by omega
    rw [e] at h
    exact h
  · have e : sf_LL R N M F = N := by omega
    rw [e] at h
    exact h
theorem sf_skipsLines {post : Int32 → Prop} {s R N M F : Nat} (hs : s < 13) (H : sf_HD s a_rankOf a_rows a_columns a_formatOf R N M F) (h : post (sf_b (sf_sl R F))) : wpX_skipsLines post (f_parts, f_arrays, f_height, f_loops, a_rankOf, a_rows, a_columns, a_formatOf, a_lines, a_lineAt, a_lineBegin, a_placeAt, a_numberAt, a_kind, a_number, a_partA, a_partB, a_indexA, a_indexB, a_stack, a_inside, a_plain, a_loopIndex, a_spanOf, a_lineIndex, a_placeIndex, a_atLine, a_atPlace, a_support, a_value, a_now, a_left) (nI s) := by
  obtain ⟨e1, e2, e3, e4, hS⟩ := H
  have hc : (nI s).toNatClampNeg = s := nI_clamp (by omega)
  have hi : vp_in (nI s) 13 := vp_in_nI hs (by omega)
  have hb := sf_shb hS
  unfold wpX_skipsLines
  dsimp only
  rw [hc, e1, e4]
  refine ⟨hi, pk_eq R 2 (fun a => ⟨hi, br_c (fun z => ?_) (fun z => ?_)⟩) (fun a => ?_)⟩
  · rw [sf_sl_f (by omega) z] at h
    exact h
  · rw [sf_sl_t (by omega) a z] at h
    exact h
  · rw [sf_sl_r a] at h
    exact h
theorem sf_skipsPlaces {post : Int32 → Prop} {s R N M F : Nat} (hs : s < 13) (H : sf_HD s a_rankOf a_rows a_columns a_formatOf R N M F) (h : post (sf_b (sf_sp R F))) : wpX_skipsPlaces post (f_parts, f_arrays, f_height, f_loops, a_rankOf, a_rows, a_columns, a_formatOf, a_lines, a_lineAt, a_lineBegin, a_placeAt, a_numberAt, a_kind, a_number, a_partA, a_partB, a_indexA, a_indexB, a_stack, a_inside, a_plain, a_loopIndex, a_spanOf, a_lineIndex, a_placeIndex, a_atLine, a_atPlace, a_support, a_value, a_now, a_left) (nI s) := by
  obtain ⟨e1, e2, e3, e4, hS⟩ := H
  have hc : (nI s).toNatClampNeg = s := nI_clamp (by omega)
  have hi : vp_in (nI s) 13 := vp_in_nI hs (by omega)
  have hb := sf_shb hS
  unfold wpX_skipsPlaces
  dsimp only
  rw [hc, e1, e4]
  refine ⟨hi, pk_le R 0 (fun a => ?_) (fun a => ⟨hi, br_c (fun z => ?_) (fun z => ?_)⟩)⟩
  · rw [sf_sp_r (by omega)] at h
    exact h
  · rw [sf_sp_f (by omega) z] at h
    exact h
  · rw [sf_sp_t (by omega) a z] at h
    exact h
theorem sf_plainAt {post : Int32 → Prop} {s R N M F l p : Nat} (hs : s < 13) (H : sf_HD s a_rankOf a_rows a_columns a_formatOf R N M F) (hl : l < sf_LC R N M F) (hp : p < sf_LL R N M F) (h : post (a_plain (sf_ix R F l p))) : wpX_plainAt post (f_parts, f_arrays, f_height, f_loops, a_rankOf, a_rows, a_columns, a_formatOf, a_lines, a_lineAt, a_lineBegin, a_placeAt, a_numberAt, a_kind, a_number, a_partA, a_partB, a_indexA, a_indexB, a_stack, a_inside, a_plain, a_loopIndex, a_spanOf, a_lineIndex, a_placeIndex, a_atLine, a_atPlace, a_support, a_value, a_now, a_left) (nI s) (nI l) (nI p) := by
  have H' := H
  obtain ⟨e1, e2, e3, e4, hS⟩ := H
  have hc : (nI s).toNatClampNeg = s := nI_clamp (by omega)
  have hi : vp_in (nI s) 13 := vp_in_nI hs (by omega)
  have hb := sf_dimb hS
  have hd := sf_ixs R F l p
  have hR := sf_shb hS
  unfold wpX_plainAt
  dsimp only
  rw [hc, e1, sf_6, sf_6, sf_6m, nI_clamp (n := 6 * l + p) (by omega), nI_clamp (n := 6 * p + l) (by omega), nI_clamp (n := 6 * p) (by omega)]
  refine ⟨hi, pk_le 2 R (fun a => sf_isTurned hs H' (fun b1 b2 => br_f (by decide) ⟨vp_in_nI (by omega) (by omega), ?_⟩) (fun b => br_t rfl ⟨vp_in_nI (by omega) (by omega), ?_⟩)) (fun a => ⟨vp_in_nI (by omega) (by omega), ?_⟩)⟩
  · have e : sf_ix R F l p = 6 * p + l := by omega
    rw [e] at h
    exact h
  · have e : sf_ix R F l p = 6 * l + p := by omega
    rw [e] at h
    exact h
  · have e : sf_ix R F l p = 6 * p := by omega
    rw [e] at h
    exact h
theorem sf_lineFilled_l {post : Int32 → Prop} {s R N M F l : Nat} (hs : s < 13) (H : sf_HD s a_rankOf a_rows a_columns a_formatOf R N M F) (hl : l < sf_LC R N M F)
    (h : post (sf_b (sf_any (fun p => a_plain (sf_ix R F l p)) (sf_LL R N M F)))) : ∀ d p, p + d = sf_LL R N M F →
    wX_lineFilled_12 post (nI s) (nI l) (nI (sf_LL R N M F)) f_parts f_arrays f_height f_loops a_rankOf a_rows a_columns a_formatOf a_lines a_lineAt a_lineBegin a_placeAt a_numberAt a_kind a_number a_partA a_partB a_indexA a_indexB a_stack a_inside a_plain a_loopIndex a_spanOf a_lineIndex a_placeIndex a_atLine a_atPlace a_support a_value a_now a_left (d + 1) (sf_b (sf_any (fun p => a_plain (sf_ix R F l p)) p)) (nI p) := by
  have hb := sf_dimb H.2.2.2.2
  intro d
  induction d with
  | zero =>
    intro p hp
    have e : p = sf_LL R N M F := by omega
    rw [e]
    exact br_t (nI_le (Nat.le_refl _) (by omega)) ⟨sf_b_n _, h⟩
  | succ d ih =>
    intro p hp
    have hn := ih (p + 1) (by omega)
    have hc : ¬ nI (sf_LL R N M F) ≤ nI p := nI_ge (by omega) (by omega)
    have es : sf_any (fun p => a_plain (sf_ix R F l p)) (p + 1) = (sf_any (fun p => a_plain (sf_ix R F l p)) p || decide (¬ a_plain (sf_ix R F l p) = 0)) := rfl
    cases e : sf_any (fun p => a_plain (sf_ix R F l p)) p with
    | true =>
      rw [es, e, Bool.true_or] at hn
      exact br_f hc (br_f (by decide) (nm_r (nI_1 p) hn))
    | false =>
      rw [es, e, Bool.false_or] at hn
      refine br_f hc (br_t rfl (sf_plainAt hs H hl (by omega) (br_c (fun z => ?_) (fun z => ?_))))
      · rw [decide_eq_false (fun w => w z)] at hn
        exact nm_r (nI_1 p) hn
      · rw [decide_eq_true z] at hn
        exact nm_r (nI_1 p) hn
theorem sf_lineFilled {post : Int32 → Prop} {s R N M F l : Nat} (hs : s < 13) (H : sf_HD s a_rankOf a_rows a_columns a_formatOf R N M F) (hl : l < sf_LC R N M F)
    (h : post (sf_b (sf_any (fun p => a_plain (sf_ix R F l p)) (sf_LL R N M F)))) : wpX_lineFilled post (f_parts, f_arrays, f_height, f_loops, a_rankOf, a_rows, a_columns, a_formatOf, a_lines, a_lineAt, a_lineBegin, a_placeAt, a_numberAt, a_kind, a_number, a_partA, a_partB, a_indexA, a_indexB, a_stack, a_inside, a_plain, a_loopIndex, a_spanOf, a_lineIndex, a_placeIndex, a_atLine, a_atPlace, a_support, a_value, a_now, a_left) (nI s) (nI l) := by
  unfold wpX_lineFilled
  dsimp only
  refine sf_lineLength hs H ⟨sf_LL R N M F + 1, ?_⟩
  exact sf_lineFilled_l hs H hl h (sf_LL R N M F) 0 (by omega)
/-- a line is written: b is where it begins -/
def sf_PL (s b l : Nat) (kq : Nat → Bool) (gq : Nat → Int32) (P : Nat) (qp qn qp' qn' : Nat → Int32) : Prop :=
  (∀ i, (i < 36 * s + b ∨ 36 * s + b + sf_cn kq P ≤ i) → qp' i = qp i ∧ qn' i = qn i) ∧
  ∀ p, p < P → kq p = true → qp' (36 * s + (b + sf_cn kq p)) = nI p ∧ qn' (36 * s + (b + sf_cn kq p)) = gq p
theorem sf_PL_0 (s b l : Nat) (kq : Nat → Bool) (gq : Nat → Int32) (qp qn : Nat → Int32) : sf_PL s b l kq gq 0 qp qn qp qn :=
  ⟨fun _ _ => ⟨rfl, rfl⟩, fun p hp => absurd hp (Nat.not_lt_zero p)⟩
theorem sf_PL_f {s b l P : Nat} {kq : Nat → Bool} {gq qp qn qp' qn' : Nat → Int32} (h : sf_PL s b l kq gq P qp qn qp' qn') (hk : kq P = false) : sf_PL s b l kq gq (P + 1) qp qn qp' qn' := by
  refine ⟨fun i hi => h.1 i (by rw [sf_cn_f hk] at hi; exact hi), fun p hp hq => ?_⟩
  by_cases z : p < P
  · exact h.2 p z hq
  · have e : p = P := by omega
    rw [e, hk] at hq
    exact absurd hq (by decide)
theorem sf_PL_t {s b l P : Nat} {kq : Nat → Bool} {gq qp qn qp' qn' : Nat → Int32} (h : sf_PL s b l kq gq P qp qn qp' qn') (hk : kq P = true) :
    sf_PL s b l kq gq (P + 1) qp qn (upd qp' (36 * s + (b + sf_cn kq P)) (nI P)) (upd qn' (36 * s + (b + sf_cn kq P)) (gq P)) := by
  refine ⟨fun i hi => ?_, fun p hp hq => ?_⟩
  · rw [sf_cn_t hk] at hi
    rw [pk_un (by omega), pk_un (by omega)]
    exact h.1 i (by omega)
  · by_cases z : p < P
    · have a := sf_cn_lt z hq
      rw [pk_un (by omega), pk_un (by omega)]
      exact h.2 p z hq
    · have e : p = P := by omega
      rw [e, pk_us, pk_us]
      exact ⟨rfl, rfl⟩
theorem sf_packLine_l {post : Int32 → SX → Prop} {s R N M F l b : Nat} {c qp qn : Nat → Int32} (hs : s < 13) (H : sf_HD s a_rankOf a_rows a_columns a_formatOf R N M F) (hl : l < sf_LC R N M F) (hb : b + sf_LL R N M F ≤ 36)
    (hpl : ∀ k, k < 36 → a_plain k = c k)
    (h : ∀ qp' qn', sf_PL s b l (sf_kp R F c l) (fun p => c (sf_ix R F l p)) (sf_LL R N M F) qp qn qp' qn' → post (nI (b + sf_cn (sf_kp R F c l) (sf_LL R N M F))) (f_parts, f_arrays, f_height, f_loops, a_rankOf, a_rows, a_columns, a_formatOf, a_lines, a_lineAt, a_lineBegin, qp', qn', a_kind, a_number, a_partA, a_partB, a_indexA, a_indexB, a_stack, a_inside, a_plain, a_loopIndex, a_spanOf, a_lineIndex, a_placeIndex, a_atLine, a_atPlace, a_support, a_value, a_now, a_left)) :
    ∀ d p qp' qn', p + d = sf_LL R N M F → sf_PL s b l (sf_kp R F c l) (fun p => c (sf_ix R F l p)) p qp qn qp' qn' →
    wX_packLine_20 post (nI s) (nI l) (nI (sf_LL R N M F)) (sf_b (sf_sp R F)) f_parts f_arrays f_height f_loops (d + 1) (nI (b + sf_cn (sf_kp R F c l) p)) (nI p) a_rankOf a_rows a_columns a_formatOf a_lines a_lineAt a_lineBegin qp' qn' a_kind a_number a_partA a_partB a_indexA a_indexB a_stack a_inside a_plain a_loopIndex a_spanOf a_lineIndex a_placeIndex a_atLine a_atPlace a_support a_value a_now a_left := by
  have hd := sf_dimb H.2.2.2.2
  intro d
  induction d with
  | zero =>
    intro p qp' qn' hp I
    have e : p = sf_LL R N M F := by omega
    rw [e] at I ⊢
    exact br_t (nI_le (Nat.le_refl _) (by omega)) (h qp' qn' I)
  | succ d ih =>
    intro p qp' qn' hp I
    have hc : ¬ nI (sf_LL R N M F) ≤ nI p := nI_ge (by omega) (by omega)
    have ep := hpl _ (sf_ix36 H.2.2.2.2 hl (show p < _ by omega))
    have hcn := sf_cn_le (sf_kp R F c l) p
    have ec : (36 : Int32) * nI s + nI (b + sf_cn (sf_kp R F c l) p) = nI (36 * s + (b + sf_cn (sf_kp R F c l) p)) := sf_36 _ _
    have hin : vp_in ((36 : Int32) * nI s + nI (b + sf_cn (sf_kp R F c l) p)) 468 := by
      rw [ec]
      exact vp_in_nI (by omega) (by omega)
    have hcl : ((36 : Int32) * nI s + nI (b + sf_cn (sf_kp R F c l) p)).toNatClampNeg = 36 * s + (b + sf_cn (sf_kp R F c l) p) := by
      rw [ec]
      exact nI_clamp (by omega)
    have hw : sf_kp R F c l p = true → wX_packLine_47 post (wX_packLine_20 post (nI s) (nI l) (nI (sf_LL R N M F)) (sf_b (sf_sp R F)) f_parts f_arrays f_height f_loops (d + 1)) (nI s) (nI l) (nI (b + sf_cn (sf_kp R F c l) p)) (nI (sf_LL R N M F)) (sf_b (sf_sp R F)) (nI p) (a_plain (sf_ix R F l p)) f_parts f_arrays f_height f_loops a_rankOf a_rows a_columns a_formatOf a_lines a_lineAt a_lineBegin qp' qn' a_kind a_number a_partA a_partB a_indexA a_indexB a_stack a_inside a_plain a_loopIndex a_spanOf a_lineIndex a_placeIndex a_atLine a_atPlace a_support a_value a_now a_left := by
      intro hk
      have k := ih (p + 1) _ _ (by omega) (sf_PL_t I hk)
      rw [sf_cn_t hk] at k
      refine And.intro hin (nm_r (e' := upd qp' (36 * s + (b + sf_cn (sf_kp R F c l) p)) (nI p)) (by rw [hcl]) (And.intro hin (nm_r (e' := upd qn' (36 * s + (b + sf_cn (sf_kp R F c l) p)) (c (sf_ix R F l p))) (by rw [hcl, ep]) (nm_r (nI_1 _) (nm_r (nI_1 _) ?_)))))
      exact k
    refine br_f hc (sf_plainAt hs H hl (by omega) (br_c (fun z => ?_) (fun z => ?_)))
    · cases e : sf_sp R F with
      | true =>
        have hk : sf_kp R F c l p = false := by
          unfold sf_kp
          rw [e, ← ep, z]
          rfl
        have k := ih (p + 1) _ _ (by omega) (sf_PL_f I hk)
        rw [sf_cn_f hk, e] at k
        exact br_f (by decide) (nm_r (nI_1 _) k)
      | false =>
        have hk : sf_kp R F c l p = true := by
          unfold sf_kp
          rw [e]
          rfl
        have k := hw hk
        rw [e] at k
        exact br_t rfl k
    · have hk : sf_kp R F c l p = true := by
        unfold sf_kp
        rw [← ep, decide_eq_true z, Bool.or_true]
      exact hw hk
theorem sf_packLine {post : Int32 → SX → Prop} {s R N M F l b : Nat} {c : Nat → Int32} (hs : s < 13) (H : sf_HD s a_rankOf a_rows a_columns a_formatOf R N M F) (hl : l < sf_LC R N M F) (hb : b + sf_LL R N M F ≤ 36)
    (hpl : ∀ k, k < 36 → a_plain k = c k)
    (h : ∀ qp' qn', sf_PL s b l (sf_kp R F c l) (fun p => c (sf_ix R F l p)) (sf_LL R N M F) a_placeAt a_numberAt qp' qn' → post (nI (b + sf_cn (sf_kp R F c l) (sf_LL R N M F))) (f_parts, f_arrays, f_height, f_loops, a_rankOf, a_rows, a_columns, a_formatOf, a_lines, a_lineAt, a_lineBegin, qp', qn', a_kind, a_number, a_partA, a_partB, a_indexA, a_indexB, a_stack, a_inside, a_plain, a_loopIndex, a_spanOf, a_lineIndex, a_placeIndex, a_atLine, a_atPlace, a_support, a_value, a_now, a_left)) :
    wpX_packLine post (f_parts, f_arrays, f_height, f_loops, a_rankOf, a_rows, a_columns, a_formatOf, a_lines, a_lineAt, a_lineBegin, a_placeAt, a_numberAt, a_kind, a_number, a_partA, a_partB, a_indexA, a_indexB, a_stack, a_inside, a_plain, a_loopIndex, a_spanOf, a_lineIndex, a_placeIndex, a_atLine, a_atPlace, a_support, a_value, a_now, a_left) (nI s) (nI l) (nI b) := by
  unfold wpX_packLine
  dsimp only
  refine sf_lineLength hs H (sf_skipsPlaces hs H ⟨sf_LL R N M F + 1, ?_⟩)
  exact sf_packLine_l hs H hl hb hpl h (sf_LL R N M F) 0 _ _ (by omega) (sf_PL_0 s b l _ _ _ _)
end
end
section
/-- packing has come to line l -/
def sf_PI (s l W : Nat) (kl : Nat → Bool) (kp : Nat → Nat → Bool) (g : Nat → Nat → Int32) (ol oa ob op oq ql qa qb qp qn : Nat → Int32) : Prop :=
  ql s = nI (sf_cn kl l) ∧ (∀ t, t ≠ s → ql t = ol t) ∧ (∀ i, (i < 6 * s ∨ 6 * s + 6 ≤ i) → qa i = oa i) ∧ (∀ i, (i < 7 * s ∨ 7 * s + 7 ≤ i) → qb i = ob i) ∧ (∀ i, (i < 36 * s ∨ 36 * s + 36 ≤ i) → qp i = op i ∧ qn i = oq i) ∧
  ∀ m, m < l → kl m = true → qa (6 * s + sf_cn kl m) = nI m ∧ qb (7 * s + sf_cn kl m) = nI (sf_bg kl kp W m) ∧ ∀ p, p < W → kp m p = true → qp (36 * s + (sf_bg kl kp W m + sf_cn (kp m) p)) = nI p ∧ qn (36 * s + (sf_bg kl kp W m + sf_cn (kp m) p)) = g m p
section
variable {s l W : Nat} {kl : Nat → Bool} {kp : Nat → Nat → Bool} {g : Nat → Nat → Int32} {ol oa ob op oq ql qa qb qp qn qp' qn' : Nat → Int32}
theorem sf_PI_0 (s W : Nat) (kl : Nat → Bool) (kp : Nat → Nat → Bool) (g : Nat → Nat → Int32) (ol oa ob op oq : Nat → Int32) : sf_PI s 0 W kl kp g ol oa ob op oq (upd ol s 0) oa ob op oq :=
  ⟨pk_us, fun t ht => pk_un ht, fun _ _ => rfl, fun _ _ => rfl, fun _ _ => ⟨rfl, rfl⟩, fun m hm => absurd hm (Nat.not_lt_zero m)⟩
theorem sf_PI_f (I : sf_PI s l W kl kp g ol oa ob op oq ql qa qb qp qn) (h : kl l = false) : sf_PI s (l + 1) W kl kp g ol oa ob op oq ql qa qb qp qn := by
  obtain ⟨h1, h2, h3, h4, h5, h6⟩ := I
  refine ⟨by rw [sf_cn_f h]; exact h1, h2, h3, h4, h5, fun m hm hk => ?_⟩
  by_cases z : m < l
  · exact h6 m z hk
  · have e : m = l := by omega
    rw [e, h] at hk
    exact absurd hk (by decide)
theorem sf_PI_t (I : sf_PI s l W kl kp g ol oa ob op oq ql qa qb qp qn) (h : kl l = true) (hl : l < 6) (hW : W ≤ 6) (L : sf_PL s (sf_bg kl kp W l) l (kp l) (g l) W qp qn qp' qn') :
    sf_PI s (l + 1) W kl kp g ol oa ob op oq (upd ql s (nI (sf_cn kl l + 1))) (upd qa (6 * s + sf_cn kl l) (nI l)) (upd qb (7 * s + sf_cn kl l) (nI (sf_bg kl kp W l))) qp' qn' := by
  obtain ⟨h1, h2, h3, h4, h5, h6⟩ := I
  have b := sf_cn_le kl l
  have b2 := sf_bg_36 kl kp (w := W) (l := l + 1) hW (by omega)
  rw [sf_bg_t h] at b2
  refine ⟨by rw [sf_cn_t h]; exact pk_us, fun t ht => (pk_un ht).trans (h2 t ht), fun i hi => ?_, fun i hi => ?_, fun i hi => ?_, fun m hm hk => ?_⟩
  · rw [pk_un (by omega)]
    exact h3 i hi
  · rw [pk_un (by omega)]
    exact h4 i hi
  · have a := L.1 i (by omega)
    rw [a.1, a.2]
    exact h5 i hi
  · by_cases z : m < l
    · have c1 := sf_cn_lt z hk
      obtain ⟨a1, a2, a3⟩ := h6 m z hk
      refine ⟨by rw [pk_un (by omega)]; exact a1, by rw [pk_un (by omega)]; exact a2, fun p hp hq => ?_⟩
      have q := sf_pos (kp := kp) z hk hp hq
      have a := L.1 (36 * s + (sf_bg kl kp W m + sf_cn (kp m) p)) (by omega)
      rw [a.1, a.2]
      exact a3 p hp hq
    · have e : m = l := by omega
      rw [e]
      exact ⟨pk_us, pk_us, L.2⟩
theorem sf_lbAll {C : Nat} (h : ∀ l, l < C → kl l = true → qb (7 * s + sf_cn kl l) = nI (sf_bg kl kp W l)) (hC : qb (7 * s + sf_cn kl C) = nI (sf_bg kl kp W C)) : ∀ d l, l + d = C → qb (7 * s + sf_cn kl l) = nI (sf_bg kl kp W l) := by
  intro d
  induction d with
  | zero =>
    intro l hl
    have e : l = C := by omega
    rw [e]
    exact hC
  | succ d ih =>
    intro l hl
    cases e : kl l with
    | true => exact h l (by omega) e
    | false =>
      have k := ih (l + 1) (by omega)
      rw [sf_cn_f e, sf_bg_f e] at k
      exact k
theorem sf_PI_end {C : Nat} (hC : C ≤ 6) (I : sf_PI s C W kl kp g ol oa ob op oq ql qa qb qp qn) : sf_PK s ql qa (upd qb (7 * s + sf_cn kl C) (nI (sf_bg kl kp W C))) qp qn C W kl kp g ∧
    ∀ t, t ≠ s → sf_E5 t ol oa ob op oq ql qa (upd qb (7 * s + sf_cn kl C) (nI (sf_bg kl kp W C))) qp qn := by
  obtain ⟨h1, h2, h3, h4, h5, h6⟩ := I
  have b := sf_cn_le kl C
  refine ⟨⟨h1, fun l hl => sf_lbAll (fun m hm hk => ?_) pk_us (C - l) l (by omega), fun m hm hk => ⟨(h6 m hm hk).1, (h6 m hm hk).2.2⟩⟩, fun t ht => ⟨h2 t ht, fun k hk => h3 _ ?_, fun k hk => ?_, fun k hk => h5 _ ?_⟩⟩
  · have c := sf_cn_lt hm hk
    rw [pk_un (by omega)]
    exact (h6 m hm hk).2.1
  · omega
  · rw [pk_un (by omega)]
    exact h4 _ (by omega)
  · omega
end
section
variable {f_parts f_arrays f_height f_loops : Int32} {a_rankOf a_rows a_columns a_formatOf a_lines a_lineAt a_lineBegin a_placeAt a_numberAt a_kind a_number a_partA a_partB a_indexA a_indexB a_stack a_inside a_plain a_loopIndex a_spanOf a_lineIndex a_placeIndex a_atLine a_atPlace a_support a_value a_now a_left : Nat → Int32}
theorem sf_pack_l {post : SX → Prop} {s R N M F : Nat} {c ol oa ob op oq : Nat → Int32} (hs : s < 13) (H : sf_HD s a_rankOf a_rows a_columns a_formatOf R N M F) (hpl : ∀ k, k < 36 → a_plain k = c k)
    (h : ∀ ql qa qb qp qn, (∀ t, t ≠ s → sf_E5 t ol oa ob op oq ql qa qb qp qn) → sf_PK s ql qa qb qp qn (sf_LC R N M F) (sf_LL R N M F) (sf_kl R N M F c) (sf_kp R F c) (fun l p => c (sf_ix R F l p)) →
      post (f_parts, f_arrays, f_height, f_loops, a_rankOf, a_rows, a_columns, a_formatOf, ql, qa, qb, qp, qn, a_kind, a_number, a_partA, a_partB, a_indexA, a_indexB, a_stack, a_inside, a_plain, a_loopIndex, a_spanOf, a_lineIndex, a_placeIndex, a_atLine, a_atPlace, a_support, a_value, a_now, a_left)) :
    ∀ d l ql qa qb qp qn, l + d = sf_LC R N M F → sf_PI s l (sf_LL R N M F) (sf_kl R N M F c) (sf_kp R F c) (fun l p => c (sf_ix R F l p)) ol oa ob op oq ql qa qb qp qn →
    wX_pack_57 post (nI s) (nI (sf_LC R N M F)) (sf_b (sf_sl R F)) (d + 1) (nI (sf_bg (sf_kl R N M F c) (sf_kp R F c) (sf_LL R N M F) l)) (nI l) f_parts f_arrays f_height f_loops a_rankOf a_rows a_columns a_formatOf ql qa qb qp qn a_kind a_number a_partA a_partB a_indexA a_indexB a_stack a_inside a_plain a_loopIndex a_spanOf a_lineIndex a_placeIndex a_atLine a_atPlace a_support a_value a_now a_left := by
  have hd := sf_dimb H.2.2.2.2
  have hc : (nI s).toNatClampNeg = s := nI_clamp (by omega)
  have hi : vp_in (nI s) 13 := vp_in_nI hs (by omega)
  intro d
  induction d with
  | zero =>
    intro l ql qa qb qp qn hl I
    have e : l = sf_LC R N M F := by omega
    rw [e] at I ⊢
    have b := sf_cn_le (sf_kl R N M F c) (sf_LC R N M F)
    have hq : ql (nI s).toNatClampNeg = nI (sf_cn (sf_kl R N M F c) (sf_LC R N M F)) := by
      rw [hc]
      exact I.1
    obtain ⟨P, E⟩ := sf_PI_end hd.2.1 I
    refine br_t (nI_le (Nat.le_refl _) (by omega)) (And.intro hi (And.intro ?_ (nm_r (e' := upd qb (7 * s + sf_cn (sf_kl R N M F c) (sf_LC R N M F)) (nI (sf_bg (sf_kl R N M F c) (sf_kp R F c) (sf_LL R N M F) (sf_LC R N M F)))) ?_ (h _ _ _ _ _ E P))))
    · rw [hq, sf_7]
      exact vp_in_nI (by omega) (by omega)
    · rw [hq, sf_7, nI_clamp (by omega)]
  | succ d ih =>
    intro l ql qa qb qp qn hl I
    have hc1 : ¬ nI (sf_LC R N M F) ≤ nI l := nI_ge (by omega) (by omega)
    have b := sf_cn_le (sf_kl R N M F c) l
    have b2 := sf_bg_le (sf_kl R N M F c) (sf_kp R F c) (sf_LL R N M F) l
    have b3 : l * sf_LL R N M F + sf_LL R N M F ≤ 36 := by
      have e : (l + 1) * sf_LL R N M F = l * sf_LL R N M F + sf_LL R N M F := Nat.succ_mul _ _
      have : (l + 1) * sf_LL R N M F ≤ 6 * 6 := Nat.mul_le_mul (by omega) hd.2.2.2
      omega
    have hq : ql (nI s).toNatClampNeg = nI (sf_cn (sf_kl R N M F c) l) := by
      rw [hc]
      exact I.1
    have ha : (fun p => a_plain (sf_ix R F l p)) = (fun p => a_plain (sf_ix R F l p)) := rfl
    have hany : sf_any (fun p => a_plain (sf_ix R F l p)) (sf_LL R N M F) = sf_any (fun p => c (sf_ix R F l p)) (sf_LL R N M F) :=
      sf_any_congr _ (fun p hp => hpl _ (sf_ix36 H.2.2.2.2 (by omega) hp))
    have hw : sf_kl R N M F c l = true → wX_pack_79 post (wX_pack_57 post (nI s) (nI (sf_LC R N M F)) (sf_b (sf_sl R F)) (d + 1)) (nI s) (nI (sf_LC R N M F)) (sf_b (sf_sl R F)) (nI (sf_bg (sf_kl R N M F c) (sf_kp R F c) (sf_LL R N M F) l)) (nI l) f_parts f_arrays f_height f_loops a_rankOf a_rows a_columns a_formatOf ql qa qb qp qn a_kind a_number a_partA a_partB a_indexA a_indexB a_stack a_inside a_plain a_loopIndex a_spanOf a_lineIndex a_placeIndex a_atLine a_atPlace a_support a_value a_now a_left := by
      intro hk
      refine And.intro hi (And.intro ?_ (nm_r (e' := upd qa (6 * s + sf_cn (sf_kl R N M F c) l) (nI l)) ?_ (And.intro hi (And.intro ?_ (nm_r (e' := upd qb (7 * s + sf_cn (sf_kl R N M F c) l) (nI (sf_bg (sf_kl R N M F c) (sf_kp R F c) (sf_LL R N M F) l))) ?_ (sf_packLine (c := c) hs H (by omega) (by omega) hpl (fun qp' qn' L => ?_)))))))
      · rw [hq, sf_6]
        exact vp_in_nI (by omega) (by omega)
      · rw [hq, sf_6, nI_clamp (by omega)]
      · rw [hq, sf_7]
        exact vp_in_nI (by omega) (by omega)
      · rw [hq, sf_7, nI_clamp (by omega)]
      · refine And.intro hi (And.intro hi (nm_r (e' := upd ql s (nI (sf_cn (sf_kl R N M F c) l + 1))) ?_ (nm_r (nI_1 l) ?_)))
        · rw [hc, I.1, nI_1]
        · have k := ih (l + 1) _ _ _ _ _ (by omega) (sf_PI_t I hk (by omega) hd.2.2.2 L)
          rw [sf_bg_t hk] at k
          exact k
    cases e : sf_sl R F with
    | false =>
      have hk : sf_kl R N M F c l = true := by
        unfold sf_kl
        rw [e]
        rfl
      have k := hw hk
      rw [e] at k
      exact br_f hc1 (br_t rfl k)
    | true =>
      refine br_f hc1 (br_f (by decide) (sf_lineFilled hs H (by omega) ?_))
      rw [hany]
      cases e2 : sf_any (fun p => c (sf_ix R F l p)) (sf_LL R N M F) with
      | true =>
        have hk : sf_kl R N M F c l = true := by
          unfold sf_kl
          rw [e2, Bool.or_true]
        have k := hw hk
        rw [e] at k
        exact br_f (by decide) k
      | false =>
        have hk : sf_kl R N M F c l = false := by
          unfold sf_kl
          rw [e, e2]
          rfl
        have k := ih (l + 1) _ _ _ _ _ (by omega) (sf_PI_f I hk)
        rw [sf_bg_f hk, e] at k
        exact br_t rfl (nm_r (nI_1 l) k)
theorem sf_pack {post : SX → Prop} {s R N M F : Nat} {c : Nat → Int32} (hs : s < 13) (hS : sf_Shp R N M F) (hpl : ∀ k, k < 36 → a_plain k = c k)
    (h : ∀ qk qr qc qf ql qa qb qp qn, sf_Fr s a_rankOf a_rows a_columns a_formatOf a_lines a_lineAt a_lineBegin a_placeAt a_numberAt qk qr qc qf ql qa qb qp qn → sf_XS s qk qr qc qf ql qa qb qp qn R N M F c → post (f_parts, f_arrays, f_height, f_loops, qk, qr, qc, qf, ql, qa, qb, qp, qn, a_kind, a_number, a_partA, a_partB, a_indexA, a_indexB, a_stack, a_inside, a_plain, a_loopIndex, a_spanOf, a_lineIndex, a_placeIndex, a_atLine, a_atPlace, a_support, a_value, a_now, a_left)) :
    wpX_pack post (f_parts, f_arrays, f_height, f_loops, a_rankOf, a_rows, a_columns, a_formatOf, a_lines, a_lineAt, a_lineBegin, a_placeAt, a_numberAt, a_kind, a_number, a_partA, a_partB, a_indexA, a_indexB, a_stack, a_inside, a_plain, a_loopIndex, a_spanOf, a_lineIndex, a_placeIndex, a_atLine, a_atPlace, a_support, a_value, a_now, a_left) (nI s) (nI R) (nI N) (nI M) (nI F) := by
  have hc : (nI s).toNatClampNeg = s := nI_clamp (by omega)
  have hi : vp_in (nI s) 13 := vp_in_nI hs (by omega)
  have H : sf_HD s (upd a_rankOf s (nI R)) (upd a_rows s (nI N)) (upd a_columns s (nI M)) (upd a_formatOf s (nI F)) R N M F := ⟨pk_us, pk_us, pk_us, pk_us, hS⟩
  unfold wpX_pack
  dsimp only
  rw [hc]
  refine ⟨hi, nm_e ⟨hi, nm_e ⟨hi, nm_e ⟨hi, nm_e ⟨hi, nm_e ?_⟩⟩⟩⟩⟩
  refine sf_lineCount hs H (sf_skipsLines hs H ⟨sf_LC R N M F + 1, ?_⟩)
  exact sf_pack_l (ol := a_lines) (oa := a_lineAt) (ob := a_lineBegin) (op := a_placeAt) (oq := a_numberAt) hs H hpl (fun ql qa qb qp qn E P => h _ _ _ _ _ _ _ _ _ (fun t ht hne => ⟨pk_un hne, pk_un hne, pk_un hne, pk_un hne, E t hne⟩) ⟨H, P⟩) (sf_LC R N M F) 0 _ _ _ _ _ (by omega) (sf_PI_0 s _ _ _ _ _ _ _ _ _)
theorem sf_clear_l {post : SX → Prop} (h : ∀ pl : Nat → Int32, (∀ k, k < 36 → pl k = 0) → post (f_parts, f_arrays, f_height, f_loops, a_rankOf, a_rows, a_columns, a_formatOf, a_lines, a_lineAt, a_lineBegin, a_placeAt, a_numberAt, a_kind, a_number, a_partA, a_partB, a_indexA, a_indexB, a_stack, a_inside, pl, a_loopIndex, a_spanOf, a_lineIndex, a_placeIndex, a_atLine, a_atPlace, a_support, a_value, a_now, a_left)) : ∀ (d k : Nat) (pl : Nat → Int32), k + d = 36 → (∀ j, j < k → pl j = 0) → wX_clearPlain_2 post f_parts f_arrays f_height f_loops (d + 1) (nI k) a_rankOf a_rows a_columns a_formatOf a_lines a_lineAt a_lineBegin a_placeAt a_numberAt a_kind a_number a_partA a_partB a_indexA a_indexB a_stack a_inside pl a_loopIndex a_spanOf a_lineIndex a_placeIndex a_atLine a_atPlace a_support a_value a_now a_left := by
  intro d
  induction d with
  | zero =>
    intro k pl hk hp
    have e : k = 36 := by omega
    subst e
    exact br_t (nI_le (a := 36) (b := 36) (by omega) (by omega)) (h pl hp)
  | succ d ih =>
    intro k pl hk hp
    refine br_f (nI_ge (a := k) (b := 36) (by omega) (by omega)) (And.intro (vp_in_nI (by omega) (by omega)) (nm_r (e' := upd pl k 0) (by rw [nI_clamp (by omega)]) (nm_r (nI_1 k) (ih (k + 1) _ (by omega) (fun j hj => ?_)))))
    by_cases z : j = k
    · rw [z]
      exact pk_us
    · rw [pk_un z]
      exact hp j (by omega)
theorem sf_clear {post : SX → Prop} (h : ∀ pl : Nat → Int32, (∀ k, k < 36 → pl k = 0) → post (f_parts, f_arrays, f_height, f_loops, a_rankOf, a_rows, a_columns, a_formatOf, a_lines, a_lineAt, a_lineBegin, a_placeAt, a_numberAt, a_kind, a_number, a_partA, a_partB, a_indexA, a_indexB, a_stack, a_inside, pl, a_loopIndex, a_spanOf, a_lineIndex, a_placeIndex, a_atLine, a_atPlace, a_support, a_value, a_now, a_left)) : wpX_clearPlain post (f_parts, f_arrays, f_height, f_loops, a_rankOf, a_rows, a_columns, a_formatOf, a_lines, a_lineAt, a_lineBegin, a_placeAt, a_numberAt, a_kind, a_number, a_partA, a_partB, a_indexA, a_indexB, a_stack, a_inside, a_plain, a_loopIndex, a_spanOf, a_lineIndex, a_placeIndex, a_atLine, a_atPlace, a_support, a_value, a_now, a_left) := by
  unfold wpX_clearPlain
  exact ⟨37, sf_clear_l h 36 0 _ (by omega) (fun j hj => absurd hj (Nat.not_lt_zero j))⟩
end
/-- unpacking has come to place q of line k -/
def sf_U (R N M F : Nat) (c pl : Nat → Int32) (k q : Nat) : Prop :=
  (∀ x, x < 36 → c x = 0 → pl x = 0) ∧ ∀ l p, l < sf_LC R N M F → p < sf_LL R N M F → sf_kl R N M F c l = true → sf_kp R F c l p = true →
    (sf_cn (sf_kl R N M F c) l < k ∨ (sf_cn (sf_kl R N M F c) l = k ∧ sf_cn (sf_kp R F c l) p < q)) → pl (sf_ix R F l p) = c (sf_ix R F l p)
theorem sf_U_n {R N M F l : Nat} {c pl : Nat → Int32} (hk : sf_kl R N M F c l = true) (U : sf_U R N M F c pl (sf_cn (sf_kl R N M F c) l) (sf_cn (sf_kp R F c l) (sf_LL R N M F))) : sf_U R N M F c pl (sf_cn (sf_kl R N M F c) l + 1) 0 := by
  refine ⟨U.1, fun m p hm hp h1 h2 h3 => U.2 m p hm hp h1 h2 ?_⟩
  by_cases z : sf_cn (sf_kl R N M F c) m < sf_cn (sf_kl R N M F c) l
  · exact Or.inl z
  · have e : sf_cn (sf_kl R N M F c) m = sf_cn (sf_kl R N M F c) l := by omega
    have e2 := sf_cn_inj h1 hk e
    subst e2
    exact Or.inr ⟨rfl, sf_cn_lt hp h2⟩
theorem sf_U_s {R N M F l p : Nat} {c pl : Nat → Int32} (hk : sf_kl R N M F c l = true) (hq : sf_kp R F c l p = true) (U : sf_U R N M F c pl (sf_cn (sf_kl R N M F c) l) (sf_cn (sf_kp R F c l) p)) : sf_U R N M F c (upd pl (sf_ix R F l p) (c (sf_ix R F l p))) (sf_cn (sf_kl R N M F c) l) (sf_cn (sf_kp R F c l) p + 1) := by
  refine ⟨fun x hx hz => ?_, fun m r hm hr h1 h2 h3 => ?_⟩
  · by_cases e : x = sf_ix R F l p
    · rw [e, pk_us, ← e]
      exact hz
    · rw [pk_un e]
      exact U.1 x hx hz
  · by_cases e : sf_ix R F m r = sf_ix R F l p
    · rw [e, pk_us]
    · rw [pk_un e]
      refine U.2 m r hm hr h1 h2 ?_
      rcases h3 with h3 | ⟨h3, h4⟩
      · exact Or.inl h3
      · have e2 := sf_cn_inj h1 hk h3
        subst e2
        refine Or.inr ⟨rfl, ?_⟩
        by_cases z : sf_cn (sf_kp R F c m) r < sf_cn (sf_kp R F c m) p
        · exact z
        · have e3 := sf_cn_inj h2 hq (by omega)
          subst e3
          exact absurd rfl e
theorem sf_U_e {R N M F : Nat} {c pl : Nat → Int32} (hS : sf_Shp R N M F) (hZ : sf_Z N M c) (U : sf_U R N M F c pl (sf_cn (sf_kl R N M F c) (sf_LC R N M F)) 0) : ∀ x, x < 36 → pl x = c x := by
  intro x hx
  by_cases z : c x = 0
  · rw [z]
    exact U.1 x hx z
  · have ex : x = 6 * (x / 6) + x % 6 := by omega
    have hin : x / 6 < N ∧ x % 6 < M := by
      refine Classical.byContradiction (fun w => z ?_)
      rw [ex]
      exact hZ _ _ (by omega) (by omega) w
    obtain ⟨l, p, hl, hp, e⟩ := sf_ix_ex hS hin.1 hin.2
    have e2 : x = sf_ix R F l p := by omega
    rw [e2] at z ⊢
    have k1 : sf_kl R N M F c l = true := by
      cases w : sf_kl R N M F c l with
      | true => rfl
      | false => exact absurd (sf_kl_f w hp) z
    have k2 : sf_kp R F c l p = true := by
      cases w : sf_kp R F c l p with
      | true => rfl
      | false => exact absurd (sf_kp_f w) z
    exact U.2 l p hl hp k1 k2 (Or.inl (sf_cn_lt hl k1))
section
variable {f_parts f_arrays f_height f_loops : Int32} {a_rankOf a_rows a_columns a_formatOf a_lines a_lineAt a_lineBegin a_placeAt a_numberAt a_kind a_number a_partA a_partB a_indexA a_indexB a_stack a_inside a_plain a_loopIndex a_spanOf a_lineIndex a_placeIndex a_atLine a_atPlace a_support a_value a_now a_left : Nat → Int32}
theorem sf_unpack_e {post : SX → Prop} {J6 : Int32 → (Nat → Int32) → (Nat → Int32) → (Nat → Int32) → (Nat → Int32) → (Nat → Int32) → (Nat → Int32) → (Nat → Int32) → (Nat → Int32) → (Nat → Int32) → (Nat → Int32) → (Nat → Int32) → (Nat → Int32) → (Nat → Int32) → (Nat → Int32) → (Nat → Int32) → (Nat → Int32) → (Nat → Int32) → (Nat → Int32) → (Nat → Int32) → (Nat → Int32) → (Nat → Int32) → (Nat → Int32) → (Nat → Int32) → (Nat → Int32) → (Nat → Int32) → (Nat → Int32) → (Nat → Int32) → (Nat → Int32) → Prop}
    {s R N M F l : Nat} {c : Nat → Int32} (hs : s < 13) (X : sf_XS s a_rankOf a_rows a_columns a_formatOf a_lines a_lineAt a_lineBegin a_placeAt a_numberAt R N M F c) (hl : l < sf_LC R N M F) (hk : sf_kl R N M F c l = true)
    (hx : ∀ pl, sf_U R N M F c pl (sf_cn (sf_kl R N M F c) l + 1) 0 → J6 (nI (sf_cn (sf_kl R N M F c) l + 1)) a_rankOf a_rows a_columns a_formatOf a_lines a_lineAt a_lineBegin a_placeAt a_numberAt a_kind a_number a_partA a_partB a_indexA a_indexB a_stack a_inside pl a_loopIndex a_spanOf a_lineIndex a_placeIndex a_atLine a_atPlace a_support a_value a_now a_left) :
    ∀ d q pl, q + d = sf_cn (sf_kp R F c l) (sf_LL R N M F) → sf_U R N M F c pl (sf_cn (sf_kl R N M F c) l) q →
    wX_unpack_56 post J6 (nI s) (nI (sf_cn (sf_kl R N M F c) l)) (nI l) (nI (sf_bg (sf_kl R N M F c) (sf_kp R F c) (sf_LL R N M F) l + sf_cn (sf_kp R F c l) (sf_LL R N M F))) f_parts f_arrays f_height f_loops (d + 1) (nI (sf_bg (sf_kl R N M F c) (sf_kp R F c) (sf_LL R N M F) l + q)) a_rankOf a_rows a_columns a_formatOf a_lines a_lineAt a_lineBegin a_placeAt a_numberAt a_kind a_number a_partA a_partB a_indexA a_indexB a_stack a_inside pl a_loopIndex a_spanOf a_lineIndex a_placeIndex a_atLine a_atPlace a_support a_value a_now a_left := by
  obtain ⟨H, P⟩ := X
  have hd := sf_dimb H.2.2.2.2
  have hc : (nI s).toNatClampNeg = s := nI_clamp (by omega)
  have hi : vp_in (nI s) 13 := vp_in_nI hs (by omega)
  have hb := sf_bg_end (kp := sf_kp R F c) (w := sf_LL R N M F) hl hk
  have hb2 := sf_bg_36 (sf_kl R N M F c) (sf_kp R F c) (w := sf_LL R N M F) (l := sf_LC R N M F) hd.2.2.2 hd.2.1
  intro d
  induction d with
  | zero =>
    intro q pl hq U
    have e : q = sf_cn (sf_kp R F c l) (sf_LL R N M F) := by omega
    rw [e] at U ⊢
    exact br_t (nI_le (Nat.le_refl _) (by omega)) (nm_r (nI_1 _) (hx pl (sf_U_n hk U)))
  | succ d ih =>
    intro q pl hq U
    have hlt : q < sf_cn (sf_kp R F c l) (sf_LL R N M F) := by omega
    obtain ⟨p, hp, hkp, ep⟩ := sf_cn_sel (sf_kp R F c l) _ q hlt
    subst ep
    obtain ⟨_, a2⟩ := P.2.2 l hl hk
    obtain ⟨a3, a4⟩ := a2 p hp hkp
    have k := ih (sf_cn (sf_kp R F c l) p + 1) _ (by omega) (sf_U_s hk hkp U)
    have hix := sf_ix36 H.2.2.2.2 hl hp
    have hixs := sf_ixs R F l p
    have e36 : ((36 : Int32) * nI s + nI (sf_bg (sf_kl R N M F c) (sf_kp R F c) (sf_LL R N M F) l + sf_cn (sf_kp R F c l) p)).toNatClampNeg = 36 * s + (sf_bg (sf_kl R N M F c) (sf_kp R F c) (sf_LL R N M F) l + sf_cn (sf_kp R F c l) p) := by
      rw [sf_36]
      exact nI_clamp (by omega)
    have i36 : vp_in ((36 : Int32) * nI s + nI (sf_bg (sf_kl R N M F c) (sf_kp R F c) (sf_LL R N M F) l + sf_cn (sf_kp R F c l) p)) 468 := by
      rw [sf_36]
      exact vp_in_nI (by omega) (by omega)
    have hR := sf_shb H.2.2.2.2
    have hw : ∀ z0 : Int32, z0 = nI (sf_ix R F l p) → wX_unpack_120 post J6 (wX_unpack_56 post J6 (nI s) (nI (sf_cn (sf_kl R N M F c) l)) (nI l) (nI (sf_bg (sf_kl R N M F c) (sf_kp R F c) (sf_LL R N M F) l + sf_cn (sf_kp R F c l) (sf_LL R N M F))) f_parts f_arrays f_height f_loops (d + 1)) (nI s) (nI (sf_cn (sf_kl R N M F c) l)) (nI l) (nI (sf_bg (sf_kl R N M F c) (sf_kp R F c) (sf_LL R N M F) l + sf_cn (sf_kp R F c l) (sf_LL R N M F))) (nI (sf_bg (sf_kl R N M F c) (sf_kp R F c) (sf_LL R N M F) l + sf_cn (sf_kp R F c l) p)) z0 f_parts f_arrays f_height f_loops a_rankOf a_rows a_columns a_formatOf a_lines a_lineAt a_lineBegin a_placeAt a_numberAt a_kind a_number a_partA a_partB a_indexA a_indexB a_stack a_inside pl a_loopIndex a_spanOf a_lineIndex a_placeIndex a_atLine a_atPlace a_support a_value a_now a_left := by
      intro z0 ez
      subst ez
      refine And.intro i36 (And.intro (vp_in_nI hix (by omega)) (nm_r (e' := upd pl (sf_ix R F l p) (c (sf_ix R F l p))) ?_ (nm_r (nI_1 _) k)))
      rw [e36, a4, nI_clamp (by omega)]
    refine br_f (nI_ge (by omega) (by omega)) (And.intro i36 (nm_r (e' := nI p) (by rw [e36]; exact a3) (And.intro hi ?_)))
    rw [hc, H.1]
    refine pk_le 2 R (fun a => sf_isTurned hs H (fun b1 b2 => br_f (by decide) (hw _ ?_)) (fun b => br_t rfl (hw _ ?_))) (fun a => hw _ ?_)
    · rw [sf_6]
      exact congrArg nI (by omega)
    · rw [sf_6]
      exact congrArg nI (by omega)
    · rw [sf_6m]
      exact congrArg nI (by omega)
theorem sf_unpack_l {post : SX → Prop} {s R N M F : Nat} {c : Nat → Int32} (hs : s < 13) (X : sf_XS s a_rankOf a_rows a_columns a_formatOf a_lines a_lineAt a_lineBegin a_placeAt a_numberAt R N M F c) (hZ : sf_Z N M c) (h : ∀ pl : Nat → Int32, (∀ k, k < 36 → pl k = c k) → post (f_parts, f_arrays, f_height, f_loops, a_rankOf, a_rows, a_columns, a_formatOf, a_lines, a_lineAt, a_lineBegin, a_placeAt, a_numberAt, a_kind, a_number, a_partA, a_partB, a_indexA, a_indexB, a_stack, a_inside, pl, a_loopIndex, a_spanOf, a_lineIndex, a_placeIndex, a_atLine, a_atPlace, a_support, a_value, a_now, a_left)) :
    ∀ d k pl, k + d = sf_cn (sf_kl R N M F c) (sf_LC R N M F) → sf_U R N M F c pl k 0 → wX_unpack_6 post (nI s) f_parts f_arrays f_height f_loops (d + 1) (nI k) a_rankOf a_rows a_columns a_formatOf a_lines a_lineAt a_lineBegin a_placeAt a_numberAt a_kind a_number a_partA a_partB a_indexA a_indexB a_stack a_inside pl a_loopIndex a_spanOf a_lineIndex a_placeIndex a_atLine a_atPlace a_support a_value a_now a_left := by
  have X' := X
  obtain ⟨H, P⟩ := X
  have hd := sf_dimb H.2.2.2.2
  have hc : (nI s).toNatClampNeg = s := nI_clamp (by omega)
  have hi : vp_in (nI s) 13 := vp_in_nI hs (by omega)
  have hb := sf_cn_le (sf_kl R N M F c) (sf_LC R N M F)
  have hq : a_lines (nI s).toNatClampNeg = nI (sf_cn (sf_kl R N M F c) (sf_LC R N M F)) := by
    rw [hc]
    exact P.1
  intro d
  induction d with
  | zero =>
    intro k pl hk U
    have e : k = sf_cn (sf_kl R N M F c) (sf_LC R N M F) := by omega
    rw [e] at U ⊢
    refine And.intro hi (br_t ?_ (h pl (sf_U_e H.2.2.2.2 hZ U)))
    rw [hq]
    exact nI_le (Nat.le_refl _) (by omega)
  | succ d ih =>
    intro k pl hk U
    obtain ⟨l, hl, hkl, el⟩ := sf_cn_sel (sf_kl R N M F c) (sf_LC R N M F) k (by omega)
    subst el
    have b := sf_bg_end (kp := sf_kp R F c) (w := sf_LL R N M F) hl hkl
    have b2 := sf_bg_36 (sf_kl R N M F c) (sf_kp R F c) (w := sf_LL R N M F) (l := sf_LC R N M F) hd.2.2.2 hd.2.1
    have l1 := P.2.1 l (by omega)
    have l2 := P.2.1 (l + 1) (by omega)
    rw [sf_cn_t hkl, sf_bg_t hkl] at l2
    refine And.intro hi (br_f ?_ (And.intro ?_ (nm_r (e' := nI l) ?_ (And.intro ?_ (nm_r (e' := nI (sf_bg (sf_kl R N M F c) (sf_kp R F c) (sf_LL R N M F) l + sf_cn (sf_kp R F c l) (sf_LL R N M F))) ?_ (And.intro ?_ (nm_r (e' := nI (sf_bg (sf_kl R N M F c) (sf_kp R F c) (sf_LL R N M F) l)) ?_ ⟨sf_cn (sf_kp R F c l) (sf_LL R N M F) + 1, ?_⟩)))))))
    · rw [hq]
      exact nI_ge (by omega) (by omega)
    · rw [sf_6]
      exact vp_in_nI (by omega) (by omega)
    · rw [sf_6, nI_clamp (by omega)]
      exact (P.2.2 l hl hkl).1
    · rw [sf_71]
      exact vp_in_nI (by omega) (by omega)
    · rw [sf_71, nI_clamp (by omega)]
      exact l2
    · rw [sf_7]
      exact vp_in_nI (by omega) (by omega)
    · rw [sf_7, nI_clamp (by omega)]
      exact l1
    · exact sf_unpack_e hs X' hl hkl (fun pl' U' => ih _ pl' (by omega) U') (sf_cn (sf_kp R F c l) (sf_LL R N M F)) 0 pl (by omega) U
theorem sf_unpack {post : SX → Prop} {s R N M F : Nat} {c : Nat → Int32} (hs : s < 13) (X : sf_XS s a_rankOf a_rows a_columns a_formatOf a_lines a_lineAt a_lineBegin a_placeAt a_numberAt R N M F c) (hZ : sf_Z N M c) (h : ∀ pl : Nat → Int32, (∀ k, k < 36 → pl k = c k) → post (f_parts, f_arrays, f_height, f_loops, a_rankOf, a_rows, a_columns, a_formatOf, a_lines, a_lineAt, a_lineBegin, a_placeAt, a_numberAt, a_kind, a_number, a_partA, a_partB, a_indexA, a_indexB, a_stack, a_inside, pl, a_loopIndex, a_spanOf, a_lineIndex, a_placeIndex, a_atLine, a_atPlace, a_support, a_value, a_now, a_left)) : wpX_unpack post (f_parts, f_arrays, f_height, f_loops, a_rankOf, a_rows, a_columns, a_formatOf, a_lines, a_lineAt, a_lineBegin, a_placeAt, a_numberAt, a_kind, a_number, a_partA, a_partB, a_indexA, a_indexB, a_stack, a_inside, a_plain, a_loopIndex, a_spanOf, a_lineIndex, a_placeIndex, a_atLine, a_atPlace, a_support, a_value, a_now, a_left) (nI s) := by
  unfold wpX_unpack
  refine sf_clear (fun pl hp => ?_)
  refine ⟨_, sf_unpack_l hs X hZ h (sf_cn (sf_kl R N M F c) (sf_LC R N M F)) 0 pl (by omega) ⟨fun x hx _ => hp x hx, fun l p _ _ _ _ z => ?_⟩⟩
  omega
end
end
section
theorem sf_nm1 {k : Nat} (h : k < 2 ^ 31) : ¬ nI k = -1 := by
  intro e
  have a := congrArg Int32.toInt e
  rw [nI_toInt h, show (-1 : Int32).toInt = -1 from by decide] at a
  omega
theorem sf_mid (lo h : Nat) (hb : lo + h < 2 ^ 31) : (nI lo + nI h) >>> ((1 : Int32) &&& 31) = nI ((lo + h) / 2) := by
  rw [nI_add]
  exact pk_shrN hb _ 1 (by decide)
section
variable {f_parts f_arrays f_height f_loops : Int32} {a_rankOf a_rows a_columns a_formatOf a_lines a_lineAt a_lineBegin a_placeAt a_numberAt a_kind a_number a_partA a_partB a_indexA a_indexB a_stack a_inside a_plain a_loopIndex a_spanOf a_lineIndex a_placeIndex a_atLine a_atPlace a_support a_value a_now a_left : Nat → Int32}
theorem sf_findLine_l {post : Int32 → Prop} {t : Int32} {s : Nat} (hs : s < 13) : ∀ r lo hi : Nat, hi - lo < 2 ^ r → r ≤ 4 → hi ≤ 6 → lo ≤ 6 →
    (∀ j k, lo ≤ j → j < k → k < hi → (a_lineAt (6 * s + j)).toInt < (a_lineAt (6 * s + k)).toInt) →
    (∀ k, lo ≤ k → k < hi → a_lineAt (6 * s + k) = t → post (nI k)) → ((∀ k, lo ≤ k → k < hi → a_lineAt (6 * s + k) ≠ t) → post (-1)) →
    wX_findLine_15 post (nI s) t f_parts f_arrays f_height f_loops a_rankOf a_rows a_columns a_formatOf a_lines a_lineAt a_lineBegin a_placeAt a_numberAt a_kind a_number a_partA a_partB a_indexA a_indexB a_stack a_inside a_plain a_loopIndex a_spanOf a_lineIndex a_placeIndex a_atLine a_atPlace a_support a_value a_now a_left (r + 1) (nI lo) (nI hi - 1) (nI (4 - r)) := by
  intro r
  induction r with
  | zero =>
    intro lo hi h1 h2 h3 h4 hs1 hF hN
    exact br_t (nI_le (a := 4) (b := 4) (by omega) (by omega)) (hN (fun k a b => by omega))
  | succ r ih =>
    intro lo hi h1 h2 h3 h4 hs1 hF hN
    have hc4 : ¬ (4 : Int32) ≤ nI (4 - (r + 1)) := nI_ge (a := 4 - (r + 1)) (b := 4) (by omega) (by omega)
    have ei : nI (4 - (r + 1)) + 1 = nI (4 - r) := by
      rw [nI_1]
      exact congrArg nI (by omega)
    by_cases z : hi ≤ lo
    · exact br_f hc4 (br_t (sf_hl z (by omega)) (hN (fun k a b => by omega)))
    · obtain ⟨h, rfl⟩ : ∃ h, hi = h + 1 := ⟨hi - 1, by omega⟩
      have hp : 2 ^ (r + 1) = 2 * 2 ^ r := by rw [Nat.pow_succ, Nat.mul_comm]
      rw [hp] at h1
      generalize hm : (lo + h) / 2 = m
      have hm1 : lo ≤ m ∧ m ≤ h ∧ m - lo < 2 ^ r ∧ h + 1 - (m + 1) < 2 ^ r := by
        generalize 2 ^ r = P at h1 ⊢
        omega
      have e6 : (6 : Int32) * nI s + nI m = nI (6 * s + m) := sf_6 s m
      rw [nI_pred]
      refine br_f hc4 (br_f (nI_nlt (by omega) (by omega)) (nm_r (e' := nI m) (by rw [sf_mid lo h (by omega), hm]) (And.intro ?_ (nm_r (e' := a_lineAt (6 * s + m)) ?_ ?_))))
      · rw [e6]
        exact vp_in_nI (by omega) (by omega)
      · rw [e6, nI_clamp (by omega)]
      · refine br_c (fun w => hF m (by omega) (by omega) w) (fun w => br_c (fun w2 => ?_) (fun w2 => ?_))
        · have w3 : ¬ a_lineAt (6 * s + m) ≤ t := by
            intro w4
            exact w (Int32.toInt_inj.mp (by rw [Int32.le_iff_toInt_le] at w2 w4; omega))
          have k := ih lo m hm1.2.2.1 (by omega) (by omega) (by omega) (fun j k a b c => hs1 j k a b (by omega)) (fun k a b => hF k a (by omega)) (fun q => hN (fun k a b => by
            by_cases y : k < m
            · exact q k a y
            · by_cases y2 : k = m
              · rw [y2]
                exact w
              · intro y3
                have y4 := hs1 m k (by omega) (by omega) b
                rw [y3] at y4
                rw [Int32.le_iff_toInt_le] at w2
                omega))
          exact br_f w3 (nm_e (nm_r ei k))
        · have w3 : a_lineAt (6 * s + m) ≤ t := by
            rw [Int32.le_iff_toInt_le] at w2 ⊢
            omega
          have k := ih (m + 1) (h + 1) hm1.2.2.2 (by omega) (by omega) (by omega) (fun j k a b c => hs1 j k (by omega) b c) (fun k a b => hF k (by omega) b) (fun q => hN (fun k a b => by
            by_cases y : m < k
            · exact q k (by omega) b
            · by_cases y2 : k = m
              · rw [y2]
                exact w
              · intro y3
                have y4 := hs1 k m a (by omega) (by omega)
                rw [y3] at y4
                rw [Int32.le_iff_toInt_le] at w2
                omega))
          rw [nI_pred] at k
          rw [nI_1]
          exact br_t w3 (nm_r ei k)
theorem sf_findPlace_l {post : Int32 → Prop} {t : Int32} {s : Nat} (hs : s < 13) : ∀ r lo hi : Nat, hi - lo < 2 ^ r → r ≤ 4 → hi ≤ 36 → lo ≤ 36 →
    (∀ j k, lo ≤ j → j < k → k < hi → (a_placeAt (36 * s + j)).toInt < (a_placeAt (36 * s + k)).toInt) →
    (∀ k, lo ≤ k → k < hi → a_placeAt (36 * s + k) = t → post (nI k)) → ((∀ k, lo ≤ k → k < hi → a_placeAt (36 * s + k) ≠ t) → post (-1)) →
    wX_findPlace_33 post (nI s) t f_parts f_arrays f_height f_loops a_rankOf a_rows a_columns a_formatOf a_lines a_lineAt a_lineBegin a_placeAt a_numberAt a_kind a_number a_partA a_partB a_indexA a_indexB a_stack a_inside a_plain a_loopIndex a_spanOf a_lineIndex a_placeIndex a_atLine a_atPlace a_support a_value a_now a_left (r + 1) (nI lo) (nI hi - 1) (nI (4 - r)) := by
  intro r
  induction r with
  | zero =>
    intro lo hi h1 h2 h3 h4 hs1 hF hN
    exact br_t (nI_le (a := 4) (b := 4) (by omega) (by omega)) (hN (fun k a b => by omega))
  | succ r ih =>
    intro lo hi h1 h2 h3 h4 hs1 hF hN
    have hc4 : ¬ (4 : Int32) ≤ nI (4 - (r + 1)) := nI_ge (a := 4 - (r + 1)) (b := 4) (by omega) (by omega)
    have ei : nI (4 - (r + 1)) + 1 = nI (4 - r) := by
      rw [nI_1]
      exact congrArg nI (by omega)
    by_cases z : hi ≤ lo
    · exact br_f hc4 (br_t (sf_hl z (by omega)) (hN (fun k a b => by omega)))
    · obtain ⟨h, rfl⟩ : ∃ h, hi = h + 1 := ⟨hi - 1, by omega⟩
      have hp : 2 ^ (r + 1) = 2 * 2 ^ r := by rw [Nat.pow_succ, Nat.mul_comm]
      rw [hp] at h1
      generalize hm : (lo + h) / 2 = m
      have hm1 : lo ≤ m ∧ m ≤ h ∧ m - lo < 2 ^ r ∧ h + 1 - (m + 1) < 2 ^ r := by
        generalize 2 ^ r = P at h1 ⊢
        omega
      have e6 : (36 : Int32) * nI s + nI m = nI (36 * s + m) := sf_36 s m
      rw [nI_pred]
      refine br_f hc4 (br_f (nI_nlt (by omega) (by omega)) (nm_r (e' := nI m) (by rw [sf_mid lo h (by omega), hm]) (And.intro ?_ (nm_r (e' := a_placeAt (36 * s + m)) ?_ ?_))))
      · rw [e6]
        exact vp_in_nI (by omega) (by omega)
      · rw [e6, nI_clamp (by omega)]
      · refine br_c (fun w => hF m (by omega) (by omega) w) (fun w => br_c (fun w2 => ?_) (fun w2 => ?_))
        · have w3 : ¬ a_placeAt (36 * s + m) ≤ t := by
            intro w4
            exact w (Int32.toInt_inj.mp (by rw [Int32.le_iff_toInt_le] at w2 w4; omega))
          have k := ih lo m hm1.2.2.1 (by omega) (by omega) (by omega) (fun j k a b c => hs1 j k a b (by omega)) (fun k a b => hF k a (by omega)) (fun q => hN (fun k a b => by
            by_cases y : k < m
            · exact q k a y
            · by_cases y2 : k = m
              · rw [y2]
                exact w
              · intro y3
                have y4 := hs1 m k (by omega) (by omega) b
                rw [y3] at y4
                rw [Int32.le_iff_toInt_le] at w2
                omega))
          exact br_f w3 (nm_e (nm_r ei k))
        · have w3 : a_placeAt (36 * s + m) ≤ t := by
            rw [Int32.le_iff_toInt_le] at w2 ⊢
            omega
          have k := ih (m + 1) (h + 1) hm1.2.2.2 (by omega) (by omega) (by omega) (fun j k a b c => hs1 j k (by omega) b c) (fun k a b => hF k (by omega) b) (fun q => hN (fun k a b => by
            by_cases y : m < k
            · exact q k (by omega) b
            · by_cases y2 : k = m
              · rw [y2]
                exact w
              · intro y3
                have y4 := hs1 k m a (by omega) (by omega)
                rw [y3] at y4
                rw [Int32.le_iff_toInt_le] at w2
                omega))
          rw [nI_pred] at k
          rw [nI_1]
          exact br_t w3 (nm_r ei k)
theorem sf_findLine {post : Int32 → Prop} {s l C W : Nat} {kl : Nat → Bool} {kp : Nat → Nat → Bool} {g : Nat → Nat → Int32} (hs : s < 13) (hC : C ≤ 6) (P : sf_PK s a_lines a_lineAt a_lineBegin a_placeAt a_numberAt C W kl kp g) (hl : l < C)
    (h1 : kl l = true → post (nI (sf_cn kl l))) (h0 : kl l = false → post (-1)) : wpX_findLine post (f_parts, f_arrays, f_height, f_loops, a_rankOf, a_rows, a_columns, a_formatOf, a_lines, a_lineAt, a_lineBegin, a_placeAt, a_numberAt, a_kind, a_number, a_partA, a_partB, a_indexA, a_indexB, a_stack, a_inside, a_plain, a_loopIndex, a_spanOf, a_lineIndex, a_placeIndex, a_atLine, a_atPlace, a_support, a_value, a_now, a_left) (nI s) (nI l) := by
  have hc : (nI s).toNatClampNeg = s := nI_clamp (by omega)
  have hi : vp_in (nI s) 13 := vp_in_nI hs (by omega)
  have hb := sf_cn_le kl C
  unfold wpX_findLine
  dsimp only
  rw [hc, P.1]
  refine ⟨hi, nm_e ⟨5, ?_⟩⟩
  refine sf_findLine_l hs 4 0 (sf_cn kl C) (by omega) (by omega) (by omega) (by omega) ?_ ?_ ?_
  · intro j k a b c
    obtain ⟨x, hx, kx, ex⟩ := sf_cn_sel kl C j (by omega)
    obtain ⟨y, hy, ky, ey⟩ := sf_cn_sel kl C k c
    have e1 := (P.2.2 x hx kx).1
    have e2 := (P.2.2 y hy ky).1
    rw [ex] at e1
    rw [ey] at e2
    rw [e1, e2, nI_toInt (by omega), nI_toInt (by omega)]
    have : x < y := by
      rcases Nat.lt_or_ge x y with w | w
      · exact w
      · have := sf_cn_mono kl x w
        omega
    omega
  · intro k a b e
    obtain ⟨x, hx, kx, ex⟩ := sf_cn_sel kl C k b
    have e1 := (P.2.2 x hx kx).1
    rw [ex, e, nI_eq (by omega) (by omega)] at e1
    subst e1
    rw [← ex]
    exact h1 kx
  · intro q
    cases e : kl l with
    | false => exact h0 e
    | true => exact absurd (P.2.2 l hl e).1 (q _ (by omega) (sf_cn_lt hl e))
theorem sf_findPlace {post : Int32 → Prop} {s l p C W : Nat} {kl : Nat → Bool} {kp : Nat → Nat → Bool} {g : Nat → Nat → Int32} (hs : s < 13) (hC : C ≤ 6) (hW : W ≤ 6) (P : sf_PK s a_lines a_lineAt a_lineBegin a_placeAt a_numberAt C W kl kp g) (hl : l < C) (hk : kl l = true) (hp : p < W)
    (h1 : kp l p = true → post (nI (sf_bg kl kp W l + sf_cn (kp l) p))) (h0 : kp l p = false → post (-1)) : wpX_findPlace post (f_parts, f_arrays, f_height, f_loops, a_rankOf, a_rows, a_columns, a_formatOf, a_lines, a_lineAt, a_lineBegin, a_placeAt, a_numberAt, a_kind, a_number, a_partA, a_partB, a_indexA, a_indexB, a_stack, a_inside, a_plain, a_loopIndex, a_spanOf, a_lineIndex, a_placeIndex, a_atLine, a_atPlace, a_support, a_value, a_now, a_left) (nI s) (nI (sf_cn kl l)) (nI p) := by
  have hb := sf_cn_le kl C
  have hb2 := sf_cn_lt hl hk
  have hb3 := sf_bg_end (kp := kp) (w := W) hl hk
  have hb4 := sf_bg_36 kl kp hW hC
  have hb5 := sf_cn_le (kp l) W
  have l1 := P.2.1 l (by omega)
  have l2 := P.2.1 (l + 1) (by omega)
  rw [sf_cn_t hk, sf_bg_t hk] at l2
  unfold wpX_findPlace
  dsimp only
  rw [sf_71, sf_7, nI_clamp (n := 7 * s + sf_cn kl l) (by omega), nI_clamp (n := 7 * s + (sf_cn kl l + 1)) (by omega), l1, l2]
  refine ⟨vp_in_nI (by omega) (by omega), nm_e ⟨vp_in_nI (by omega) (by omega), nm_e ⟨5, ?_⟩⟩⟩
  refine sf_findPlace_l hs 4 _ _ (by omega) (by omega) (by omega) (by omega) ?_ ?_ ?_
  · intro j k a b c
    obtain ⟨x, hx, kx, ex⟩ := sf_cn_sel (kp l) W (j - sf_bg kl kp W l) (by omega)
    obtain ⟨y, hy, ky, ey⟩ := sf_cn_sel (kp l) W (k - sf_bg kl kp W l) (by omega)
    have e1 := ((P.2.2 l hl hk).2 x hx kx).1
    have e2 := ((P.2.2 l hl hk).2 y hy ky).1
    rw [ex, show sf_bg kl kp W l + (j - sf_bg kl kp W l) = j by omega] at e1
    rw [ey, show sf_bg kl kp W l + (k - sf_bg kl kp W l) = k by omega] at e2
    rw [e1, e2, nI_toInt (by omega), nI_toInt (by omega)]
    have : x < y := by
      rcases Nat.lt_or_ge x y with w | w
      · exact w
      · have := sf_cn_mono (kp l) x w
        omega
    omega
  · intro k a b e
    obtain ⟨x, hx, kx, ex⟩ := sf_cn_sel (kp l) W (k - sf_bg kl kp W l) (by omega)
    have e1 := ((P.2.2 l hl hk).2 x hx kx).1
    rw [ex, show sf_bg kl kp W l + (k - sf_bg kl kp W l) = k by omega, e, nI_eq (by omega) (by omega)] at e1
    subst e1
    have e2 : k = sf_bg kl kp W l + sf_cn (kp l) p := by omega
    rw [e2]
    exact h1 kx
  · intro q
    cases e : kp l p with
    | false => exact h0 e
    | true =>
      have w := sf_cn_lt hp e
      exact absurd ((P.2.2 l hl hk).2 p hp e).1 (q _ (by omega) (by omega))
theorem sf_pos52 {post : Int32 → Prop} {s l p R N M F : Nat} {c : Nat → Int32} (hs : s < 13) (X : sf_XS s a_rankOf a_rows a_columns a_formatOf a_lines a_lineAt a_lineBegin a_placeAt a_numberAt R N M F c) (hl : l < sf_LC R N M F) (hp : p < sf_LL R N M F)
    (h1 : sf_kl R N M F c l = true → sf_kp R F c l p = true → post (nI (sf_bg (sf_kl R N M F c) (sf_kp R F c) (sf_LL R N M F) l + sf_cn (sf_kp R F c l) p))) (h0 : c (sf_ix R F l p) = 0 → post (-1)) :
    wX_position_52 post (nI s) (nI l) (nI p) f_parts f_arrays f_height f_loops a_rankOf a_rows a_columns a_formatOf a_lines a_lineAt a_lineBegin a_placeAt a_numberAt a_kind a_number a_partA a_partB a_indexA a_indexB a_stack a_inside a_plain a_loopIndex a_spanOf a_lineIndex a_placeIndex a_atLine a_atPlace a_support a_value a_now a_left := by
  obtain ⟨H, P⟩ := X
  have hd := sf_dimb H.2.2.2.2
  have hb := sf_cn_le (sf_kl R N M F c) l
  unfold wX_position_52
  refine sf_findLine hs hd.2.1 P hl (fun k => br_f (sf_nm1 (by omega)) ?_) (fun k => br_t rfl (h0 (sf_kl_f k hp)))
  exact sf_findPlace hs hd.2.1 hd.2.2.2 P hl k hp (fun w => h1 k w) (fun w => h0 (sf_kp_f w))
theorem sf_position {post : Int32 → Prop} {s i j R N M F : Nat} {c : Nat → Int32} (hs : s < 13) (X : sf_XS s a_rankOf a_rows a_columns a_formatOf a_lines a_lineAt a_lineBegin a_placeAt a_numberAt R N M F c) (hi : i < N) (hj : j < M)
    (h1 : ∀ l p, l < sf_LC R N M F → p < sf_LL R N M F → sf_ix R F l p = 6 * i + j → sf_kl R N M F c l = true → sf_kp R F c l p = true → post (nI (sf_bg (sf_kl R N M F c) (sf_kp R F c) (sf_LL R N M F) l + sf_cn (sf_kp R F c l) p)))
    (h0 : c (6 * i + j) = 0 → post (-1)) : wpX_position post (f_parts, f_arrays, f_height, f_loops, a_rankOf, a_rows, a_columns, a_formatOf, a_lines, a_lineAt, a_lineBegin, a_placeAt, a_numberAt, a_kind, a_number, a_partA, a_partB, a_indexA, a_indexB, a_stack, a_inside, a_plain, a_loopIndex, a_spanOf, a_lineIndex, a_placeIndex, a_atLine, a_atPlace, a_support, a_value, a_now, a_left) (nI s) (nI i) (nI j) := by
  have X' := X
  obtain ⟨H, P⟩ := X
  have hR := sf_shb H.2.2.2.2
  have hd := sf_dims H.2.2.2.2
  have hS := H.2.2.2.2
  unfold sf_Shp at hS
  have hc : (nI s).toNatClampNeg = s := nI_clamp (by omega)
  have hin : vp_in (nI s) 13 := vp_in_nI hs (by omega)
  have key : ∀ l p, l < sf_LC R N M F → p < sf_LL R N M F → sf_ix R F l p = 6 * i + j → wX_position_52 post (nI s) (nI l) (nI p) f_parts f_arrays f_height f_loops a_rankOf a_rows a_columns a_formatOf a_lines a_lineAt a_lineBegin a_placeAt a_numberAt a_kind a_number a_partA a_partB a_indexA a_indexB a_stack a_inside a_plain a_loopIndex a_spanOf a_lineIndex a_placeIndex a_atLine a_atPlace a_support a_value a_now a_left := by
    intro l p hl hp e
    refine sf_pos52 hs X' hl hp (fun a b => h1 l p hl hp e a b) (fun a => h0 ?_)
    rw [← e]
    exact a
  unfold wpX_position
  dsimp only
  rw [hc, H.1]
  refine ⟨hin, pk_le 2 R (fun a => sf_isTurned hs H (fun b1 b2 => br_f (by decide) ?_) (fun b => br_t rfl ?_)) (fun a => ?_)⟩
  · have x := sf_ixs R F j i
    unfold wX_position_27
    rw [hc, H.1]
    refine ⟨hin, br_f (nI_nlt (by omega) (by omega)) (sf_isTurned hs H (fun d1 d2 => br_f (by decide) ?_) (fun d => absurd ⟨b1, b2⟩ d))⟩
    exact key j i (by omega) (by omega) (by omega)
  · have x := sf_ixs R F i j
    unfold wX_position_27
    rw [hc, H.1]
    refine ⟨hin, br_f (nI_nlt (by omega) (by omega)) (sf_isTurned hs H (fun d1 d2 => absurd ⟨d1, d2⟩ b) (fun d => br_t rfl ?_))⟩
    exact key i j (by omega) (by omega) (by omega)
  · have x := sf_ixs R F 0 i
    unfold wX_position_27
    rw [hc, H.1]
    refine ⟨hin, br_t (nI_lt (b := 2) (by omega) (by omega)) ?_⟩
    exact key 0 i (by omega) (by omega) (by omega)
/-! arguments: registers, formats, places -/
theorem sf_bR1 {post : Int32 → Prop} {v : Int32} (h : v < 0 ∨ 6 ≤ v) (k : post 1) : wpX_badRegister post (f_parts, f_arrays, f_height, f_loops, a_rankOf, a_rows, a_columns, a_formatOf, a_lines, a_lineAt, a_lineBegin, a_placeAt, a_numberAt, a_kind, a_number, a_partA, a_partB, a_indexA, a_indexB, a_stack, a_inside, a_plain, a_loopIndex, a_spanOf, a_lineIndex, a_placeIndex, a_atLine, a_atPlace, a_support, a_value, a_now, a_left) v := by
  unfold wpX_badRegister
  refine br_c (fun _ => k) (fun a => br_f ?_ k)
  rcases h with h | h
  · exact absurd h a
  · exact Int32.not_lt.mpr h
theorem sf_bR0 {post : Int32 → Prop} {s : Nat} (hs : s < 6) (k : post 0) : wpX_badRegister post (f_parts, f_arrays, f_height, f_loops, a_rankOf, a_rows, a_columns, a_formatOf, a_lines, a_lineAt, a_lineBegin, a_placeAt, a_numberAt, a_kind, a_number, a_partA, a_partB, a_indexA, a_indexB, a_stack, a_inside, a_plain, a_loopIndex, a_spanOf, a_lineIndex, a_placeIndex, a_atLine, a_atPlace, a_support, a_value, a_now, a_left) (nI s) := by
  unfold wpX_badRegister
  exact br_f (nI_pos (by omega)) (br_t (nI_lt (b := 6) hs (by omega)) k)
end
theorem sf_reg (v : Int32) : (v < 0 ∨ 6 ≤ v) ∨ ∃ s, s < 6 ∧ v = nI s := by
  rcases pk_ix v (n := 6) (by omega) with h | h | h
  · exact Or.inl (Or.inl h)
  · exact Or.inl (Or.inr h)
  · exact Or.inr h
def sf_most (R : Nat) : Nat := if R = 0 then 0 else if R = 1 then 1 else 7
theorem sf_most_le (R : Nat) : sf_most R ≤ 7 := by
  unfold sf_most
  split
  · omega
  · split <;> omega
theorem sf_fmt (R : Nat) (v : Int32) : (v < 0 ∨ nI (sf_most R) < v) ∨ ∃ F, F ≤ sf_most R ∧ v = nI F := by
  have hm := sf_most_le R
  rcases pk_ix v (n := sf_most R + 1) (by omega) with h | h | ⟨j, hj, e⟩
  · exact Or.inl (Or.inl h)
  · refine Or.inl (Or.inr ?_)
    rw [Int32.lt_iff_toInt_lt, nI_toInt (by omega)]
    rw [Int32.le_iff_toInt_le, nI_toInt (by omega)] at h
    omega
  · exact Or.inr ⟨j, by omega, e⟩
theorem sf_plc {N M : Nat} (hN : N ≤ 6) (hM : M ≤ 6) (v w : Int32) : (v < 0 ∨ nI N ≤ v ∨ w < 0 ∨ nI M ≤ w) ∨ ∃ i j, i < N ∧ j < M ∧ v = nI i ∧ w = nI j := by
  rcases pk_ix v (n := N) (by omega) with h | h | ⟨i, hi, e⟩
  · exact Or.inl (Or.inl h)
  · exact Or.inl (Or.inr (Or.inl h))
  · rcases pk_ix w (n := M) (by omega) with h2 | h2 | ⟨j, hj, e2⟩
    · exact Or.inl (Or.inr (Or.inr (Or.inl h2)))
    · exact Or.inl (Or.inr (Or.inr (Or.inr h2)))
    · exact Or.inr ⟨i, j, hi, hj, e, e2⟩
section
variable {f_parts f_arrays f_height f_loops : Int32} {a_rankOf a_rows a_columns a_formatOf a_lines a_lineAt a_lineBegin a_placeAt a_numberAt a_kind a_number a_partA a_partB a_indexA a_indexB a_stack a_inside a_plain a_loopIndex a_spanOf a_lineIndex a_placeIndex a_atLine a_atPlace a_support a_value a_now a_left : Nat → Int32}
theorem sf_bF1 {post : Int32 → Prop} {R : Nat} {v : Int32} (hR : R ≤ 2) (h : v < 0 ∨ nI (sf_most R) < v) (k : post 1) : wpX_badFormat post (f_parts, f_arrays, f_height, f_loops, a_rankOf, a_rows, a_columns, a_formatOf, a_lines, a_lineAt, a_lineBegin, a_placeAt, a_numberAt, a_kind, a_number, a_partA, a_partB, a_indexA, a_indexB, a_stack, a_inside, a_plain, a_loopIndex, a_spanOf, a_lineIndex, a_placeIndex, a_atLine, a_atPlace, a_support, a_value, a_now, a_left) (nI R) v := by
  unfold wpX_badFormat
  have key : ∀ z : Int32, z = nI (sf_most R) → wX_badFormat_19 post v z f_parts f_arrays f_height f_loops a_rankOf a_rows a_columns a_formatOf a_lines a_lineAt a_lineBegin a_placeAt a_numberAt a_kind a_number a_partA a_partB a_indexA a_indexB a_stack a_inside a_plain a_loopIndex a_spanOf a_lineIndex a_placeIndex a_atLine a_atPlace a_support a_value a_now a_left := by
    intro z ez
    subst ez
    refine br_c (fun _ => k) (fun a => br_f ?_ k)
    rcases h with h | h
    · exact absurd h a
    · exact Int32.not_le.mpr h
  refine pk_eq R 0 (fun a => key 0 ?_) (fun a => pk_eq R 1 (fun b => key 1 ?_) (fun b => key 7 ?_))
  · unfold sf_most
    rw [if_pos a]
    rfl
  · unfold sf_most
    rw [if_neg a, if_pos b]
    rfl
  · unfold sf_most
    rw [if_neg a, if_neg b]
    rfl
theorem sf_bF0 {post : Int32 → Prop} {R F : Nat} (hR : R ≤ 2) (h : F ≤ sf_most R) (k : post 0) : wpX_badFormat post (f_parts, f_arrays, f_height, f_loops, a_rankOf, a_rows, a_columns, a_formatOf, a_lines, a_lineAt, a_lineBegin, a_placeAt, a_numberAt, a_kind, a_number, a_partA, a_partB, a_indexA, a_indexB, a_stack, a_inside, a_plain, a_loopIndex, a_spanOf, a_lineIndex, a_placeIndex, a_atLine, a_atPlace, a_support, a_value, a_now, a_left) (nI R) (nI F) := by
  unfold wpX_badFormat
  have hm := sf_most_le R
  have key : ∀ z : Int32, z = nI (sf_most R) → wX_badFormat_19 post (nI F) z f_parts f_arrays f_height f_loops a_rankOf a_rows a_columns a_formatOf a_lines a_lineAt a_lineBegin a_placeAt a_numberAt a_kind a_number a_partA a_partB a_indexA a_indexB a_stack a_inside a_plain a_loopIndex a_spanOf a_lineIndex a_placeIndex a_atLine a_atPlace a_support a_value a_now a_left := by
    intro z ez
    subst ez
    exact br_f (nI_pos (by omega)) (br_t (nI_le h (by omega)) k)
  refine pk_eq R 0 (fun a => key 0 ?_) (fun a => pk_eq R 1 (fun b => key 1 ?_) (fun b => key 7 ?_))
  · unfold sf_most
    rw [if_pos a]
    rfl
  · unfold sf_most
    rw [if_neg a, if_pos b]
    rfl
  · unfold sf_most
    rw [if_neg a, if_neg b]
    rfl
theorem sf_nP1 {post : Int32 → Prop} {s R N M F : Nat} {v w : Int32} (hs : s < 13) (H : sf_HD s a_rankOf a_rows a_columns a_formatOf R N M F) (h : v < 0 ∨ nI N ≤ v ∨ w < 0 ∨ nI M ≤ w) (k : post 1) : wpX_noPlace post (f_parts, f_arrays, f_height, f_loops, a_rankOf, a_rows, a_columns, a_formatOf, a_lines, a_lineAt, a_lineBegin, a_placeAt, a_numberAt, a_kind, a_number, a_partA, a_partB, a_indexA, a_indexB, a_stack, a_inside, a_plain, a_loopIndex, a_spanOf, a_lineIndex, a_placeIndex, a_atLine, a_atPlace, a_support, a_value, a_now, a_left) (nI s) v w := by
  have hc : (nI s).toNatClampNeg = s := nI_clamp (by omega)
  have hin : vp_in (nI s) 13 := vp_in_nI hs (by omega)
  unfold wpX_noPlace
  dsimp only
  rw [hc, H.2.1, H.2.2.1]
  refine br_c (fun _ => k) (fun a => ⟨hin, br_c (fun _ => k) (fun b => br_c (fun _ => k) (fun d => ⟨hin, br_f (fun e => ?_) k⟩))⟩)
  rcases h with h | h | h | h
  · exact a h
  · exact b h
  · exact d h
  · exact Int32.not_lt.mpr h e
theorem sf_nP0 {post : Int32 → Prop} {s R N M F i j : Nat} (hs : s < 13) (H : sf_HD s a_rankOf a_rows a_columns a_formatOf R N M F) (hi : i < N) (hj : j < M) (k : post 0) : wpX_noPlace post (f_parts, f_arrays, f_height, f_loops, a_rankOf, a_rows, a_columns, a_formatOf, a_lines, a_lineAt, a_lineBegin, a_placeAt, a_numberAt, a_kind, a_number, a_partA, a_partB, a_indexA, a_indexB, a_stack, a_inside, a_plain, a_loopIndex, a_spanOf, a_lineIndex, a_placeIndex, a_atLine, a_atPlace, a_support, a_value, a_now, a_left) (nI s) (nI i) (nI j) := by
  have hc : (nI s).toNatClampNeg = s := nI_clamp (by omega)
  have hin : vp_in (nI s) 13 := vp_in_nI hs (by omega)
  have hb := sf_shb H.2.2.2.2
  unfold wpX_noPlace
  dsimp only
  rw [hc, H.2.1, H.2.2.1]
  exact br_f (nI_pos (by omega)) ⟨hin, br_f (nI_ge hi (by omega)) (br_f (nI_pos (by omega)) ⟨hin, br_t (nI_lt hj (by omega)) k⟩)⟩
theorem sf_get {post : Int32 → Prop} {s i j R N M F : Nat} {c : Nat → Int32} (hs : s < 6) (X : sf_XS s a_rankOf a_rows a_columns a_formatOf a_lines a_lineAt a_lineBegin a_placeAt a_numberAt R N M F c) (hi : i < N) (hj : j < M) (k : post (c (6 * i + j))) : wpX_get post (f_parts, f_arrays, f_height, f_loops, a_rankOf, a_rows, a_columns, a_formatOf, a_lines, a_lineAt, a_lineBegin, a_placeAt, a_numberAt, a_kind, a_number, a_partA, a_partB, a_indexA, a_indexB, a_stack, a_inside, a_plain, a_loopIndex, a_spanOf, a_lineIndex, a_placeIndex, a_atLine, a_atPlace, a_support, a_value, a_now, a_left) (nI s) (nI i) (nI j) := by
  have hd := sf_dimb X.1.2.2.2.2
  unfold wpX_get
  refine sf_bR0 hs (br_t rfl (sf_nP0 (by omega) X.1 hi hj (br_t rfl (sf_position (by omega) X hi hj (fun l p hl hp e k1 k2 => ?_) (fun z => br_t rfl ?_)))))
  · have q := sf_pos36 hd.2.1 hd.2.2.2 hl k1 hp k2
    refine br_f (sf_nm1 (by omega)) ⟨?_, ?_⟩
    · rw [sf_36]
      exact vp_in_nI (by omega) (by omega)
    · rw [sf_36, nI_clamp (by omega), ((X.2.2.2 l hl k1).2 p hp k2).2]
      dsimp only
      rw [e]
      exact k
  · rw [z] at k
    exact k
theorem sf_roomOf {post : Int32 → Prop} {s R N M F : Nat} {c : Nat → Int32} (hs : s < 13) (X : sf_XS s a_rankOf a_rows a_columns a_formatOf a_lines a_lineAt a_lineBegin a_placeAt a_numberAt R N M F c) (k : post (nI (sf_bg (sf_kl R N M F c) (sf_kp R F c) (sf_LL R N M F) (sf_LC R N M F)))) : wpX_roomOf post (f_parts, f_arrays, f_height, f_loops, a_rankOf, a_rows, a_columns, a_formatOf, a_lines, a_lineAt, a_lineBegin, a_placeAt, a_numberAt, a_kind, a_number, a_partA, a_partB, a_indexA, a_indexB, a_stack, a_inside, a_plain, a_loopIndex, a_spanOf, a_lineIndex, a_placeIndex, a_atLine, a_atPlace, a_support, a_value, a_now, a_left) (nI s) := by
  have hc : (nI s).toNatClampNeg = s := nI_clamp (by omega)
  have hin : vp_in (nI s) 13 := vp_in_nI hs (by omega)
  have hd := sf_dimb X.1.2.2.2.2
  have hb := sf_cn_le (sf_kl R N M F c) (sf_LC R N M F)
  unfold wpX_roomOf
  dsimp only
  rw [hc, X.2.1, sf_7, nI_clamp (by omega), X.2.2.1 _ (Nat.le_refl _)]
  exact ⟨hin, vp_in_nI (by omega) (by omega), k⟩
end
end
section
theorem sf_fd : ∀ F, F < 8 → nI F / 2 - nI F / 2 / 2 * 2 = nI (F / 2 % 2) := by decide +kernel
theorem sf_fm : ∀ F, F < 8 → nI F - nI F / 2 * 2 = nI (F % 2) := by decide +kernel
def sf_ci (b : Bool) (l k : Nat) : Nat := cond b (6 * l + k) (6 * k + l)
/-- is other than 0 -/
def sf_nz (x : Int32) : Bool := decide (¬ x = 0)
theorem sf_nz_t {x : Int32} (h : ¬ x = 0) : sf_nz x = true := decide_eq_true h
theorem sf_nz_f {x : Int32} (h : x = 0) : sf_nz x = false := decide_eq_false (fun w => w h)
theorem sf_own (f : Nat → Int32) (n : Nat) : sf_any f n = decide (0 < sf_cn (fun p => sf_nz (f p)) n) := by
  by_cases h : 0 < sf_cn (fun p => sf_nz (f p)) n
  · obtain ⟨p, hp, hk, _⟩ := sf_cn_sel _ n 0 h
    rw [decide_eq_true h]
    exact sf_any_t hp (of_decide_eq_true hk)
  · rw [decide_eq_false h]
    refine sf_any_z n (fun p hp => Classical.byContradiction (fun w => h ?_))
    exact sf_cn_pos (f := fun p => sf_nz (f p)) hp (sf_nz_t w)
section
variable {g_parts g_arrays g_depth : Int32} {b_ranks b_rows b_widths b_formats b_cells b_kinds b_numbers b_sizes b_values b_firsts b_seconds b_at b_spans : Nat → Int32}
theorem sf_yR1 {post : Int32 → Prop} {v : Int32} (h : v < 0 ∨ 6 ≤ v) (k : post 0) : wpY_isRegister post (g_parts, g_arrays, g_depth, b_ranks, b_rows, b_widths, b_formats, b_cells, b_kinds, b_numbers, b_sizes, b_values, b_firsts, b_seconds, b_at, b_spans) v := by
  unfold wpY_isRegister
  refine br_c (fun _ => k) (fun a => br_t ?_ k)
  rcases h with h | h
  · exact absurd h a
  · rw [Int32.lt_iff_toInt_lt, show (5 : Int32).toInt = 5 from by decide]
    rw [Int32.le_iff_toInt_le, show (6 : Int32).toInt = 6 from by decide] at h
    omega
theorem sf_yR0 {post : Int32 → Prop} {s : Nat} (hs : s < 6) (k : post 1) : wpY_isRegister post (g_parts, g_arrays, g_depth, b_ranks, b_rows, b_widths, b_formats, b_cells, b_kinds, b_numbers, b_sizes, b_values, b_firsts, b_seconds, b_at, b_spans) (nI s) := by
  unfold wpY_isRegister
  exact br_f (nI_pos (by omega)) (br_f (nI_nlt (a := 5) (by omega) (by omega)) k)
theorem sf_yF1 {post : Int32 → Prop} {R : Nat} {v : Int32} (hR : R ≤ 2) (h : v < 0 ∨ nI (sf_most R) < v) (k : post 0) : wpY_isFormat post (g_parts, g_arrays, g_depth, b_ranks, b_rows, b_widths, b_formats, b_cells, b_kinds, b_numbers, b_sizes, b_values, b_firsts, b_seconds, b_at, b_spans) (nI R) v := by
  unfold wpY_isFormat
  refine br_c (fun _ => k) (fun n => ?_)
  have key : ∀ z : Int32, z = nI (sf_most R) → wY_isFormat_24 post z v g_parts g_arrays g_depth b_ranks b_rows b_widths b_formats b_cells b_kinds b_numbers b_sizes b_values b_firsts b_seconds b_at b_spans := by
    intro z ez
    subst ez
    refine br_t ?_ k
    rcases h with h | h
    · exact absurd h n
    · exact h
  refine pk_eq R 0 (fun a => key 0 ?_) (fun a => pk_eq R 1 (fun b => key 1 ?_) (fun b => key 7 ?_))
  · unfold sf_most
    rw [if_pos a]
    rfl
  · unfold sf_most
    rw [if_neg a, if_pos b]
    rfl
  · unfold sf_most
    rw [if_neg a, if_neg b]
    rfl
theorem sf_yF0 {post : Int32 → Prop} {R F : Nat} (hR : R ≤ 2) (h : F ≤ sf_most R) (k : post 1) : wpY_isFormat post (g_parts, g_arrays, g_depth, b_ranks, b_rows, b_widths, b_formats, b_cells, b_kinds, b_numbers, b_sizes, b_values, b_firsts, b_seconds, b_at, b_spans) (nI R) (nI F) := by
  unfold wpY_isFormat
  have hm := sf_most_le R
  refine br_f (nI_pos (by omega)) ?_
  have key : ∀ z : Int32, z = nI (sf_most R) → wY_isFormat_24 post z (nI F) g_parts g_arrays g_depth b_ranks b_rows b_widths b_formats b_cells b_kinds b_numbers b_sizes b_values b_firsts b_seconds b_at b_spans := by
    intro z ez
    subst ez
    exact br_f (nI_nlt h (by omega)) k
  refine pk_eq R 0 (fun a => key 0 ?_) (fun a => pk_eq R 1 (fun b => key 1 ?_) (fun b => key 7 ?_))
  · unfold sf_most
    rw [if_pos a]
    rfl
  · unfold sf_most
    rw [if_neg a, if_pos b]
    rfl
  · unfold sf_most
    rw [if_neg a, if_neg b]
    rfl
theorem sf_yP1 {post : Int32 → Prop} {s R N M F : Nat} {v w : Int32} (hs : s < 13) (H : sf_HD s b_ranks b_rows b_widths b_formats R N M F) (h : v < 0 ∨ nI N ≤ v ∨ w < 0 ∨ nI M ≤ w) (k : post 0) : wpY_isPlace post (g_parts, g_arrays, g_depth, b_ranks, b_rows, b_widths, b_formats, b_cells, b_kinds, b_numbers, b_sizes, b_values, b_firsts, b_seconds, b_at, b_spans) (nI s) v w := by
  have hc : (nI s).toNatClampNeg = s := nI_clamp (by omega)
  have hin : vp_in (nI s) 13 := vp_in_nI hs (by omega)
  unfold wpY_isPlace
  dsimp only
  rw [hc, H.2.1, H.2.2.1]
  refine br_c (fun _ => k) (fun a => ⟨hin, br_c (fun _ => k) (fun b => br_c (fun _ => k) (fun d => ⟨hin, br_c (fun _ => k) (fun e => ?_)⟩))⟩)
  rcases h with h | h | h | h
  · exact absurd h a
  · exact absurd h b
  · exact absurd h d
  · exact absurd h e
theorem sf_yP0 {post : Int32 → Prop} {s R N M F i j : Nat} (hs : s < 13) (H : sf_HD s b_ranks b_rows b_widths b_formats R N M F) (hi : i < N) (hj : j < M) (k : post 1) : wpY_isPlace post (g_parts, g_arrays, g_depth, b_ranks, b_rows, b_widths, b_formats, b_cells, b_kinds, b_numbers, b_sizes, b_values, b_firsts, b_seconds, b_at, b_spans) (nI s) (nI i) (nI j) := by
  have hc : (nI s).toNatClampNeg = s := nI_clamp (by omega)
  have hin : vp_in (nI s) 13 := vp_in_nI hs (by omega)
  have hb := sf_shb H.2.2.2.2
  unfold wpY_isPlace
  dsimp only
  rw [hc, H.2.1, H.2.2.1]
  exact br_f (nI_pos (by omega)) ⟨hin, br_f (nI_ge hi (by omega)) (br_f (nI_pos (by omega)) ⟨hin, br_f (nI_ge hj (by omega)) k⟩)⟩
theorem sf_cl56 {post : Int32 → Prop} {J27 : Int32 → Int32 → Prop} {x2 x3 x5 : Int32} {s i j q k m : Nat} (hs : s < 13) (hi : i < 6) (hj : j < 6) (em : m = 6 * i + j)
    (h0 : b_cells (36 * s + m) = 0 → J27 (nI q) (nI (k + 1))) (h1 : ¬ b_cells (36 * s + m) = 0 → J27 (nI (q + 1)) (nI (k + 1))) :
    wY_countLine_56 post J27 (nI s) x2 x3 (nI q) x5 (nI k) (nI i) (nI j) g_parts g_arrays g_depth b_ranks b_rows b_widths b_formats b_cells b_kinds b_numbers b_sizes b_values b_firsts b_seconds b_at b_spans := by
  subst em
  unfold wY_countLine_56
  rw [sf_366, nI_clamp (by omega)]
  exact ⟨vp_in_nI (by omega) (by omega), br_c (fun z => nm_r (nI_1 k) (h0 z)) (fun z => nm_r (nI_1 q) (nm_r (nI_1 k) (h1 z)))⟩
theorem sf_cl_l {post : Int32 → Prop} {s l W : Nat} {b : Bool} (hs : s < 13) (hl : l < 6) (hW : W ≤ 6) (h : post (nI (sf_cn (fun k => sf_nz (b_cells (36 * s + sf_ci b l k))) W))) :
    ∀ d k, k + d = W → wY_countLine_27 post (nI s) (nI l) (sf_b b) (nI W) g_parts g_arrays g_depth b_ranks b_rows b_widths b_formats b_cells b_kinds b_numbers b_sizes b_values b_firsts b_seconds b_at b_spans (d + 1) (nI (sf_cn (fun k => sf_nz (b_cells (36 * s + sf_ci b l k))) k)) (nI k) := by
  intro d
  induction d with
  | zero =>
    intro k hk
    have e : k = W := by omega
    rw [e]
    exact br_t (nI_le (Nat.le_refl _) (by omega)) h
  | succ d ih =>
    intro k hk
    have n := ih (k + 1) (by omega)
    have h0 : b_cells (36 * s + sf_ci b l k) = 0 → wY_countLine_27 post (nI s) (nI l) (sf_b b) (nI W) g_parts g_arrays g_depth b_ranks b_rows b_widths b_formats b_cells b_kinds b_numbers b_sizes b_values b_firsts b_seconds b_at b_spans (d + 1) (nI (sf_cn (fun k => sf_nz (b_cells (36 * s + sf_ci b l k))) k)) (nI (k + 1)) := by
      intro z
      rw [sf_cn_f (f := fun k => sf_nz (b_cells (36 * s + sf_ci b l k))) (sf_nz_f z)] at n
      exact n
    have h1 : ¬ b_cells (36 * s + sf_ci b l k) = 0 → wY_countLine_27 post (nI s) (nI l) (sf_b b) (nI W) g_parts g_arrays g_depth b_ranks b_rows b_widths b_formats b_cells b_kinds b_numbers b_sizes b_values b_firsts b_seconds b_at b_spans (d + 1) (nI (sf_cn (fun k => sf_nz (b_cells (36 * s + sf_ci b l k))) k + 1)) (nI (k + 1)) := by
      intro z
      rw [sf_cn_t (f := fun k => sf_nz (b_cells (36 * s + sf_ci b l k))) (sf_nz_t z)] at n
      exact n
    refine br_f (nI_ge (by omega) (by omega)) ?_
    cases b with
    | true => exact br_f (by decide) (br_f (by decide) (sf_cl56 (m := sf_ci true l k) hs hl (by omega) rfl h0 h1))
    | false => exact br_t rfl (br_t rfl (sf_cl56 (m := sf_ci false l k) hs (by omega) hl rfl h0 h1))
theorem sf_countLine {post : Int32 → Prop} {s R N M F l : Nat} (b : Bool) (hs : s < 13) (H : sf_HD s b_ranks b_rows b_widths b_formats R N M F) (hl : l < 6)
    (h : post (nI (sf_cn (fun k => sf_nz (b_cells (36 * s + sf_ci b l k))) (cond b M N)))) : wpY_countLine post (g_parts, g_arrays, g_depth, b_ranks, b_rows, b_widths, b_formats, b_cells, b_kinds, b_numbers, b_sizes, b_values, b_firsts, b_seconds, b_at, b_spans) (nI s) (nI l) (sf_b b) := by
  have hc : (nI s).toNatClampNeg = s := nI_clamp (by omega)
  have hin : vp_in (nI s) 13 := vp_in_nI hs (by omega)
  have hb := sf_shb H.2.2.2.2
  unfold wpY_countLine
  dsimp only
  rw [hc, H.2.1, H.2.2.1]
  cases b with
  | true => exact br_f (by decide) ⟨hin, nm_e ⟨_, sf_cl_l (b := true) (W := M) hs hl (by omega) h M 0 (by omega)⟩⟩
  | false => exact br_t rfl ⟨hin, nm_e ⟨_, sf_cl_l (b := false) (W := N) hs hl (by omega) h N 0 (by omega)⟩⟩
theorem sf_cf_l {post : Int32 → Prop} {s R N M F : Nat} (hs : s < 13) (H : sf_HD s b_ranks b_rows b_widths b_formats R N M F)
    (h : post (nI (sf_sn (fun i => sf_cn (fun k => sf_nz (b_cells (36 * s + sf_ci true i k))) M) N))) :
    ∀ d i, i + d = N → wY_countFilled_4 post (nI s) g_parts g_arrays g_depth b_ranks b_rows b_widths b_formats b_cells b_kinds b_numbers b_sizes b_values b_firsts b_seconds b_at b_spans (d + 1) (nI (sf_sn (fun i => sf_cn (fun k => sf_nz (b_cells (36 * s + sf_ci true i k))) M) i)) (nI i) := by
  have hc : (nI s).toNatClampNeg = s := nI_clamp (by omega)
  have hin : vp_in (nI s) 13 := vp_in_nI hs (by omega)
  have hb := sf_shb H.2.2.2.2
  have hr : b_rows (nI s).toNatClampNeg = nI N := by
    rw [hc]
    exact H.2.1
  intro d
  induction d with
  | zero =>
    intro i hi
    have e : i = N := by omega
    rw [e]
    refine And.intro hin (br_t ?_ h)
    rw [hr]
    exact nI_le (Nat.le_refl _) (by omega)
  | succ d ih =>
    intro i hi
    refine And.intro hin (br_f ?_ (sf_countLine true hs H (by omega) (nm_r (nI_add _ _) (nm_r (nI_1 i) (ih (i + 1) (by omega))))))
    rw [hr]
    exact nI_ge (by omega) (by omega)
theorem sf_countFilled {post : Int32 → Prop} {s R N M F : Nat} (hs : s < 13) (H : sf_HD s b_ranks b_rows b_widths b_formats R N M F)
    (h : post (nI (sf_sn (fun i => sf_cn (fun k => sf_nz (b_cells (36 * s + sf_ci true i k))) M) N))) : wpY_countFilled post (g_parts, g_arrays, g_depth, b_ranks, b_rows, b_widths, b_formats, b_cells, b_kinds, b_numbers, b_sizes, b_values, b_firsts, b_seconds, b_at, b_spans) (nI s) := by
  unfold wpY_countFilled
  exact ⟨_, sf_cf_l hs H h N 0 (by omega)⟩
theorem sf_cr_l {post : Int32 → Prop} {s N M F : Nat} {b : Bool} (hs : s < 13) (H : sf_HD s b_ranks b_rows b_widths b_formats 2 N M F) (hF : (b = true ∧ F < 4) ∨ (b = false ∧ 4 ≤ F))
    (h : post (nI (sf_bg (sf_kl 2 N M F (fun k => b_cells (36 * s + k))) (sf_kp 2 F (fun k => b_cells (36 * s + k))) (sf_LL 2 N M F) (sf_LC 2 N M F)))) :
    ∀ d l, l + d = sf_LC 2 N M F → wY_countRoom_96 post (nI s) (nI F) (sf_b b) (nI (sf_LC 2 N M F)) (nI (sf_LL 2 N M F)) g_parts g_arrays g_depth b_ranks b_rows b_widths b_formats b_cells b_kinds b_numbers b_sizes b_values b_firsts b_seconds b_at b_spans (d + 1) (nI (sf_bg (sf_kl 2 N M F (fun k => b_cells (36 * s + k))) (sf_kp 2 F (fun k => b_cells (36 * s + k))) (sf_LL 2 N M F) l)) (nI l) := by
  have hb := sf_shb H.2.2.2.2
  have hd := sf_dims H.2.2.2.2
  have hdb := sf_dimb H.2.2.2.2
  intro d
  induction d with
  | zero =>
    intro l hl
    have e : l = sf_LC 2 N M F := by omega
    rw [e]
    exact br_t (nI_le (Nat.le_refl _) (by omega)) h
  | succ d ih =>
    intro l hl
    have n := ih (l + 1) (by omega)
    have ew : cond b M N = sf_LL 2 N M F := by
      rcases hF with ⟨rfl, hF⟩ | ⟨rfl, hF⟩
      · show M = _
        omega
      · show N = _
        omega
    have ei : ∀ k, sf_ci b l k = sf_ix 2 F l k := by
      intro k
      have x := sf_ixs 2 F l k
      rcases hF with ⟨rfl, hF⟩ | ⟨rfl, hF⟩
      · show 6 * l + k = _
        omega
      · show 6 * k + l = _
        omega
    have ef : (fun k => sf_nz (b_cells (36 * s + sf_ci b l k))) = (fun k => sf_nz (b_cells (36 * s + sf_ix 2 F l k))) := funext (fun k => by rw [ei k])
    refine br_f (nI_ge (by omega) (by omega)) (sf_countLine b hs H (by omega) ?_)
    rw [ef, ew]
    have hle := sf_cn_le (fun k => sf_nz (b_cells (36 * s + sf_ix 2 F l k))) (sf_LL 2 N M F)
    have hown := sf_own (fun k => b_cells (36 * s + sf_ix 2 F l k)) (sf_LL 2 N M F)
    have hyes : sf_kl 2 N M F (fun k => b_cells (36 * s + k)) l = true → wY_countRoom_131 post (wY_countRoom_96 post (nI s) (nI F) (sf_b b) (nI (sf_LC 2 N M F)) (nI (sf_LL 2 N M F)) g_parts g_arrays g_depth b_ranks b_rows b_widths b_formats b_cells b_kinds b_numbers b_sizes b_values b_firsts b_seconds b_at b_spans (d + 1)) (nI s) (nI F) (sf_b b) (nI (sf_LC 2 N M F)) (nI (sf_LL 2 N M F)) (nI (sf_bg (sf_kl 2 N M F (fun k => b_cells (36 * s + k))) (sf_kp 2 F (fun k => b_cells (36 * s + k))) (sf_LL 2 N M F) l)) (nI l) (nI (sf_cn (fun k => sf_nz (b_cells (36 * s + sf_ix 2 F l k))) (sf_LL 2 N M F))) 1 g_parts g_arrays g_depth b_ranks b_rows b_widths b_formats b_cells b_kinds b_numbers b_sizes b_values b_firsts b_seconds b_at b_spans := by
      intro hk
      rw [sf_bg_t hk] at n
      refine br_f (by decide) (And.intro (by decide) ?_)
      rw [sf_fm F (by omega)]
      refine pk_eq (F % 2) 0 (fun a => nm_r (nI_add _ _) (nm_r (nI_1 l) ?_)) (fun a => nm_r (nI_add _ _) (nm_r (nI_1 l) ?_))
      · have e : sf_cn (sf_kp 2 F (fun k => b_cells (36 * s + k)) l) (sf_LL 2 N M F) = sf_LL 2 N M F := by
          refine sf_cn_all _ (fun p hp => ?_)
          have z : sf_sp 2 F = false := decide_eq_false (by omega)
          unfold sf_kp
          rw [z]
          rfl
        rw [e] at n
        exact n
      · have e : sf_cn (sf_kp 2 F (fun k => b_cells (36 * s + k)) l) (sf_LL 2 N M F) = sf_cn (fun k => sf_nz (b_cells (36 * s + sf_ix 2 F l k))) (sf_LL 2 N M F) := by
          refine sf_cn_congr _ (fun p hp => ?_)
          have z : sf_sp 2 F = true := decide_eq_true (by omega)
          unfold sf_kp
          rw [z]
          rfl
        rw [e] at n
        exact n
    refine pk_lt 0 (sf_cn (fun k => sf_nz (b_cells (36 * s + sf_ix 2 F l k))) (sf_LL 2 N M F)) (fun a => hyes ?_) (fun a => And.intro (by decide) (And.intro (by decide) ?_))
    · unfold sf_kl
      rw [hown, decide_eq_true a, Bool.or_true]
    · rw [sf_fd F (by omega)]
      refine pk_eq (F / 2 % 2) 0 (fun a2 => hyes ?_) (fun a2 => ?_)
      · have z : sf_sl 2 F = false := decide_eq_false (by omega)
        unfold sf_kl
        rw [z]
        rfl
      · have hk : sf_kl 2 N M F (fun k => b_cells (36 * s + k)) l = false := by
          have z : sf_sl 2 F = true := decide_eq_true (by omega)
          unfold sf_kl
          rw [z, hown, decide_eq_false (by omega)]
          rfl
        rw [sf_bg_f hk] at n
        exact br_t rfl (nm_r (nI_1 l) n)
theorem sf_countRoom {post : Int32 → Prop} {s R N M F : Nat} (hs : s < 13) (H : sf_HD s b_ranks b_rows b_widths b_formats R N M F)
    (h : post (nI (sf_bg (sf_kl R N M F (fun k => b_cells (36 * s + k))) (sf_kp R F (fun k => b_cells (36 * s + k))) (sf_LL R N M F) (sf_LC R N M F)))) : wpY_countRoom post (g_parts, g_arrays, g_depth, b_ranks, b_rows, b_widths, b_formats, b_cells, b_kinds, b_numbers, b_sizes, b_values, b_firsts, b_seconds, b_at, b_spans) (nI s) := by
  have H' := H
  obtain ⟨e1, e2, e3, e4, hS⟩ := H
  have hc : (nI s).toNatClampNeg = s := nI_clamp (by omega)
  have hin : vp_in (nI s) 13 := vp_in_nI hs (by omega)
  have hb := sf_shb hS
  have hd := sf_dims hS
  unfold wpY_countRoom
  dsimp only
  rw [hc, e1, e2, e4]
  refine ⟨hin, nm_e ⟨hin, pk_le 2 R (fun a => ?_) (fun a => ?_)⟩⟩
  · have eR : R = 2 := by omega
    subst eR
    refine pk_le 4 F (fun b => ?_) (fun b => ?_)
    · refine br_t rfl (And.intro hin (br_t rfl (And.intro hin ?_)))
      rw [hc, e2, e3]
      have w1 : sf_LC 2 N M F = M := by omega
      have w2 : sf_LL 2 N M F = N := by omega
      have k : wY_countRoom_96 post (nI s) (nI F) (sf_b false) (nI (sf_LC 2 N M F)) (nI (sf_LL 2 N M F)) g_parts g_arrays g_depth b_ranks b_rows b_widths b_formats b_cells b_kinds b_numbers b_sizes b_values b_firsts b_seconds b_at b_spans (sf_LC 2 N M F + 1) (nI 0) (nI 0) := sf_cr_l (b := false) hs H' (Or.inr ⟨rfl, b⟩) h (sf_LC 2 N M F) 0 (by omega)
      rw [w1, w2] at k
      exact nm_e ⟨_, k⟩
    · refine br_f (by decide) (And.intro hin (br_f (by decide) (And.intro hin ?_)))
      rw [hc, e2, e3]
      have w1 : sf_LC 2 N M F = N := by omega
      have w2 : sf_LL 2 N M F = M := by omega
      have k : wY_countRoom_96 post (nI s) (nI F) (sf_b true) (nI (sf_LC 2 N M F)) (nI (sf_LL 2 N M F)) g_parts g_arrays g_depth b_ranks b_rows b_widths b_formats b_cells b_kinds b_numbers b_sizes b_values b_firsts b_seconds b_at b_spans (sf_LC 2 N M F + 1) (nI 0) (nI 0) := sf_cr_l (b := true) hs H' (Or.inl ⟨rfl, b⟩) h (sf_LC 2 N M F) 0 (by omega)
      rw [w1, w2] at k
      exact nm_e ⟨_, k⟩
  · have w1 : sf_LC R N M F = 1 := by omega
    have w2 : sf_LL R N M F = N := by omega
    have k0 : sf_kl R N M F (fun k => b_cells (36 * s + k)) 0 = true := by
      have z : sf_sl R F = false := sf_sl_r (by omega)
      unfold sf_kl
      rw [z]
      rfl
    have eb : sf_bg (sf_kl R N M F (fun k => b_cells (36 * s + k))) (sf_kp R F (fun k => b_cells (36 * s + k))) (sf_LL R N M F) (sf_LC R N M F) = sf_cn (sf_kp R F (fun k => b_cells (36 * s + k)) 0) N := by
      rw [w1, w2, sf_bg_t k0]
      exact Nat.zero_add _
    rw [eb] at h
    refine pk_eq F 1 (fun b => sf_countFilled hs H' ?_) (fun b => ⟨hin, ?_⟩)
    · have e : sf_sn (fun i => sf_cn (fun k => sf_nz (b_cells (36 * s + sf_ci true i k))) M) N = sf_cn (sf_kp R F (fun k => b_cells (36 * s + k)) 0) N := by
        have eM : M = 1 := by
          unfold sf_Shp at hS
          omega
        rw [sf_cn_sn, eM]
        refine sf_sn_congr N (fun i hi => ?_)
        have z : sf_sp R F = true := decide_eq_true (by unfold sf_Shp at hS; omega)
        have x : sf_ix R F 0 i = 6 * i := by
          have := sf_ixs R F 0 i
          omega
        show 0 + (if sf_nz (b_cells (36 * s + (6 * i + 0))) = true then 1 else 0) = (if (!(sf_sp R F) || sf_nz (b_cells (36 * s + sf_ix R F 0 i))) = true then 1 else 0)
        rw [z, x, Nat.zero_add]
        rfl
      rw [e]
      exact h
    · have e : sf_cn (sf_kp R F (fun k => b_cells (36 * s + k)) 0) N = N := by
        refine sf_cn_all N (fun p hp => ?_)
        have z : sf_sp R F = false := decide_eq_false (by unfold sf_Shp at hS; omega)
        unfold sf_kp
        rw [z]
        rfl
      rw [e] at h
      exact h
theorem sf_shape_l {post : SY → Prop} {s : Nat} {oc : Nat → Int32} (hs : s < 13) (h : ∀ ce : Nat → Int32, (∀ k, k < 36 → ce (36 * s + k) = 0) → (∀ i, (i < 36 * s ∨ 36 * s + 36 ≤ i) → ce i = oc i) → post (g_parts, g_arrays, g_depth, b_ranks, b_rows, b_widths, b_formats, ce, b_kinds, b_numbers, b_sizes, b_values, b_firsts, b_seconds, b_at, b_spans)) :
    ∀ (d k : Nat) (ce : Nat → Int32), k + d = 36 → (∀ j, j < k → ce (36 * s + j) = 0) → (∀ i, (i < 36 * s ∨ 36 * s + 36 ≤ i) → ce i = oc i) → wY_shape_64 post (nI s) g_parts g_arrays g_depth (d + 1) (nI k) b_ranks b_rows b_widths b_formats ce b_kinds b_numbers b_sizes b_values b_firsts b_seconds b_at b_spans := by
  intro d
  induction d with
  | zero =>
    intro k ce hk h1 h2
    have e : k = 36 := by omega
    subst e
    exact br_t (nI_le (a := 36) (b := 36) (by omega) (by omega)) (h ce h1 h2)
  | succ d ih =>
    intro k ce hk h1 h2
    refine br_f (nI_ge (a := k) (b := 36) (by omega) (by omega)) (And.intro (by rw [sf_36]; exact vp_in_nI (by omega) (by omega)) (nm_r (e' := upd ce (36 * s + k) 0) (by rw [sf_36, nI_clamp (by omega)]) (nm_r (nI_1 k) (ih (k + 1) _ (by omega) (fun j hj => ?_) (fun i hi => ?_)))))
    · by_cases z : j = k
      · rw [z]
        exact pk_us
      · rw [pk_un (by omega)]
        exact h1 j (by omega)
    · rw [pk_un (by omega)]
      exact h2 i hi
theorem sf_shape {post : SY → Prop} {s n m R N M : Nat} {f : Int32} (hs : s < 13) (hn : n ≤ 6) (hm : m ≤ 6)
    (h1 : (n = 0 ∧ R = 0 ∧ N = 1) ∨ (n ≠ 0 ∧ m = 0 ∧ R = 1 ∧ N = n) ∨ (n ≠ 0 ∧ m ≠ 0 ∧ R = 2 ∧ N = n)) (h2 : (m = 0 ∧ M = 1) ∨ (m ≠ 0 ∧ M = m))
    (h : ∀ ce : Nat → Int32, (∀ k, k < 36 → ce (36 * s + k) = 0) → (∀ i, (i < 36 * s ∨ 36 * s + 36 ≤ i) → ce i = b_cells i) → post (g_parts, g_arrays, g_depth, (upd b_ranks s (nI R)), (upd b_rows s (nI N)), (upd b_widths s (nI M)), (upd b_formats s f), ce, b_kinds, b_numbers, b_sizes, b_values, b_firsts, b_seconds, b_at, b_spans)) :
    wpY_shape post (g_parts, g_arrays, g_depth, b_ranks, b_rows, b_widths, b_formats, b_cells, b_kinds, b_numbers, b_sizes, b_values, b_firsts, b_seconds, b_at, b_spans) (nI s) (nI n) (nI m) f := by
  have hc : (nI s).toNatClampNeg = s := nI_clamp (by omega)
  have hin : vp_in (nI s) 13 := vp_in_nI hs (by omega)
  have k52 : ∀ z : Int32, z = nI M → wY_shape_52 post (nI s) f z (nI s) g_parts g_arrays g_depth (upd b_ranks s (nI R)) (upd b_rows s (nI N)) b_widths b_formats b_cells b_kinds b_numbers b_sizes b_values b_firsts b_seconds b_at b_spans := by
    intro z ez
    subst ez
    unfold wY_shape_52
    rw [hc]
    exact ⟨hin, nm_e ⟨hin, nm_e ⟨_, sf_shape_l hs h 36 0 _ (by omega) (fun j hj => absurd hj (Nat.not_lt_zero j)) (fun i _ => rfl)⟩⟩⟩
  have k37 : ∀ z : Int32, z = nI N → wY_shape_37 post (nI s) (nI m) f z (nI s) g_parts g_arrays g_depth (upd b_ranks s (nI R)) b_rows b_widths b_formats b_cells b_kinds b_numbers b_sizes b_values b_firsts b_seconds b_at b_spans := by
    intro z ez
    subst ez
    unfold wY_shape_37
    rw [hc]
    refine ⟨hin, nm_e (pk_eq m 0 (fun a => k52 1 ?_) (fun a => k52 (nI m) ?_))⟩
    · have e : M = 1 := by omega
      rw [e]
      rfl
    · have e : M = m := by omega
      rw [e]
  have k22 : ∀ z : Int32, z = nI R → wY_shape_22 post (nI s) (nI n) (nI m) f z (nI s) g_parts g_arrays g_depth b_ranks b_rows b_widths b_formats b_cells b_kinds b_numbers b_sizes b_values b_firsts b_seconds b_at b_spans := by
    intro z ez
    subst ez
    unfold wY_shape_22
    rw [hc]
    refine ⟨hin, nm_e (pk_eq n 0 (fun a => k37 1 ?_) (fun a => k37 (nI n) ?_))⟩
    · have e : N = 1 := by omega
      rw [e]
      rfl
    · have e : N = n := by omega
      rw [e]
  unfold wpY_shape
  refine pk_eq n 0 (fun a => k22 0 ?_) (fun a => pk_eq m 0 (fun b => k22 1 ?_) (fun b => k22 2 ?_))
  · have e : R = 0 := by omega
    rw [e]
    rfl
  · have e : R = 1 := by omega
    rw [e]
    rfl
  · have e : R = 2 := by omega
    rw [e]
    rfl
theorem sf_ycopy_l {post : SY → Prop} {s t : Nat} {oc : Nat → Int32} (hs : s < 13) (ht : t < 13) (hne : s ≠ t) (h : ∀ ce : Nat → Int32, (∀ k, k < 36 → ce (36 * t + k) = oc (36 * s + k)) → (∀ i, (i < 36 * t ∨ 36 * t + 36 ≤ i) → ce i = oc i) → post (g_parts, g_arrays, g_depth, b_ranks, b_rows, b_widths, b_formats, ce, b_kinds, b_numbers, b_sizes, b_values, b_firsts, b_seconds, b_at, b_spans)) :
    ∀ (d k : Nat) (ce : Nat → Int32), k + d = 36 → (∀ j, j < k → ce (36 * t + j) = oc (36 * s + j)) → (∀ i, (i < 36 * t ∨ 36 * t + 36 ≤ i) → ce i = oc i) → wY_copy_50 post (nI s) (nI t) g_parts g_arrays g_depth (d + 1) (nI k) b_ranks b_rows b_widths b_formats ce b_kinds b_numbers b_sizes b_values b_firsts b_seconds b_at b_spans := by
  intro d
  induction d with
  | zero =>
    intro k ce hk h1 h2
    have e : k = 36 := by omega
    subst e
    exact br_t (nI_le (a := 36) (b := 36) (by omega) (by omega)) (h ce h1 h2)
  | succ d ih =>
    intro k ce hk h1 h2
    refine br_f (nI_ge (a := k) (b := 36) (by omega) (by omega)) (And.intro (by rw [sf_36]; exact vp_in_nI (by omega) (by omega)) (And.intro (by rw [sf_36]; exact vp_in_nI (by omega) (by omega)) (nm_r (e' := upd ce (36 * t + k) (oc (36 * s + k))) (by rw [sf_36, sf_36, nI_clamp (by omega), nI_clamp (by omega), h2 (36 * s + k) (by omega)]) (nm_r (nI_1 k) (ih (k + 1) _ (by omega) (fun j hj => ?_) (fun i hi => ?_))))))
    · by_cases z : j = k
      · rw [z]
        exact pk_us
      · rw [pk_un (by omega)]
        exact h1 j (by omega)
    · rw [pk_un (by omega)]
      exact h2 i hi
theorem sf_ycopy {post : SY → Prop} {s t : Nat} (hs : s < 13) (ht : t < 13) (hne : s ≠ t) (h : ∀ ce : Nat → Int32, (∀ k, k < 36 → ce (36 * t + k) = b_cells (36 * s + k)) → (∀ i, (i < 36 * t ∨ 36 * t + 36 ≤ i) → ce i = b_cells i) →
      post (g_parts, g_arrays, g_depth, (upd b_ranks t (b_ranks s)), (upd b_rows t (b_rows s)), (upd b_widths t (b_widths s)), (upd b_formats t (b_formats s)), ce, b_kinds, b_numbers, b_sizes, b_values, b_firsts, b_seconds, b_at, b_spans)) : wpY_copy post (g_parts, g_arrays, g_depth, b_ranks, b_rows, b_widths, b_formats, b_cells, b_kinds, b_numbers, b_sizes, b_values, b_firsts, b_seconds, b_at, b_spans) (nI s) (nI t) := by
  have hc : (nI s).toNatClampNeg = s := nI_clamp (by omega)
  have hin : vp_in (nI s) 13 := vp_in_nI hs (by omega)
  have hc2 : (nI t).toNatClampNeg = t := nI_clamp (by omega)
  have hin2 : vp_in (nI t) 13 := vp_in_nI ht (by omega)
  unfold wpY_copy
  dsimp only
  rw [hc, hc2]
  exact ⟨hin, hin2, nm_e ⟨hin, hin2, nm_e ⟨hin, hin2, nm_e ⟨hin, hin2, nm_e ⟨_, sf_ycopy_l hs ht hne h 36 0 _ (by omega) (fun j hj => absurd hj (Nat.not_lt_zero j)) (fun i _ => rfl)⟩⟩⟩⟩⟩
end
end
section
/-! the relation -/
def sf_eI (i : Nat) : Int32 := if i < 3 then nI i else -1
def sf_SL (s : Nat) (qk qr qc qf ql qa qb qp qn yk yr yc yf ye : Nat → Int32) : Prop := ∃ R N M F, sf_XS s qk qr qc qf ql qa qb qp qn R N M F (fun k => ye (36 * s + k)) ∧ sf_HD s yk yr yc yf R N M F ∧ sf_Z N M (fun k => ye (36 * s + k))
def sf_IR (R i j : Nat) : Prop := (R = 0 ∧ i = 3 ∧ j = 3) ∨ (R = 1 ∧ i < 3 ∧ j = 3) ∨ (R = 2 ∧ i < 3 ∧ j < 3 ∧ i ≠ j)
def sf_AR (a i j : Nat) (qk qr qc qf ql qa qb qp qn yk yr yc yf ye : Nat → Int32) : Prop := ∃ R N M F, sf_XS (6 + a) qk qr qc qf ql qa qb qp qn R N M F (fun k => ye (36 * (6 + a) + k)) ∧ sf_HD (6 + a) yk yr yc yf R N M F ∧ sf_Z N M (fun k => ye (36 * (6 + a) + k)) ∧ sf_IR R i j
def sf_IX (A : Nat) (ia ib : Nat → Nat) (xA xB yA yB : Nat → Int32) : Prop := ∀ a, a < A → xA a = sf_eI (ia a) ∧ xB a = sf_eI (ib a) ∧ yA (6 + a) = sf_eI (ia a) ∧ yB (6 + a) = sf_eI (ib a)
/-- the trees of parts -/
def sf_TR (P : Nat) (kd sz : Nat → Nat) : Prop := ∀ p, p < P → 1 ≤ sz p ∧ sz p ≤ p + 1 ∧
  ((kd p ≤ 1 ∧ sz p = 1) ∨ (kd p = 2 ∧ 1 ≤ p ∧ sz p = sz (p - 1) + 1) ∨ (3 ≤ kd p ∧ kd p ≤ 5 ∧ 1 ≤ p ∧ sz (p - 1) + 1 ≤ p ∧ sz p = sz (p - 1) + sz (p - 1 - sz (p - 1)) + 1))
def sf_PD (P A : Nat) (kd ar sz : Nat → Nat) (xk xn xA xB yk yn ys : Nat → Int32) : Prop := ∀ p, p < P → xk p = nI (kd p) ∧ yk p = nI (kd p) ∧ ys p = nI (sz p) ∧
  ((kd p = 0 ∧ xn p = yn p ∧ xA p = -1 ∧ xB p = -1) ∨ (kd p = 1 ∧ ar p < A ∧ xn p = nI (ar p) ∧ yn p = nI (6 + ar p) ∧ xA p = -1 ∧ xB p = -1) ∨
   (kd p = 2 ∧ xA p = nI (p - 1) ∧ xB p = -1) ∨ (3 ≤ kd p ∧ kd p ≤ 5 ∧ xA p = nI (p - 1 - sz (p - 1)) ∧ xB p = nI (p - 1)))
def sf_ST (P H : Nat) (sz bo : Nat → Nat) (xs : Nat → Int32) : Prop := bo 0 = 0 ∧ bo H = P ∧ ∀ h, h < H → bo h < bo (h + 1) ∧ bo (h + 1) ≤ P ∧ xs h = nI (bo (h + 1) - 1) ∧ sz (bo (h + 1) - 1) = bo (h + 1) - bo h
def sf_Rl (P A H : Nat) (kd ar sz bo ia ib : Nat → Nat) (a_rankOf a_rows a_columns a_formatOf a_lines a_lineAt a_lineBegin a_placeAt a_numberAt a_kind a_number a_partA a_partB a_indexA a_indexB a_stack b_ranks b_rows b_widths b_formats b_cells b_kinds b_numbers b_sizes b_firsts b_seconds : Nat → Int32) : Prop :=
  (∀ s, s < 6 → sf_SL s a_rankOf a_rows a_columns a_formatOf a_lines a_lineAt a_lineBegin a_placeAt a_numberAt b_ranks b_rows b_widths b_formats b_cells) ∧ (∀ a, a < A → sf_AR a (ia a) (ib a) a_rankOf a_rows a_columns a_formatOf a_lines a_lineAt a_lineBegin a_placeAt a_numberAt b_ranks b_rows b_widths b_formats b_cells) ∧ sf_IX A ia ib a_indexA a_indexB b_firsts b_seconds ∧
  (P ≤ 20 ∧ A ≤ 6 ∧ H ≤ 6) ∧ sf_TR P kd sz ∧ sf_PD P A kd ar sz a_kind a_number a_partA a_partB b_kinds b_numbers b_sizes ∧ sf_ST P H sz bo a_stack ∧ (∀ a, a < A → ∃ p, p < P ∧ kd p = 1 ∧ ar p = a)
/-- the relation at the head of a turn -/
def i_Rel (k : Nat) (u : SX) (v : SY) : Prop := match u, v with
  | (f_parts, f_arrays, f_height, f_loops, a_rankOf, a_rows, a_columns, a_formatOf, a_lines, a_lineAt, a_lineBegin, a_placeAt, a_numberAt, a_kind, a_number, a_partA, a_partB, a_indexA, a_indexB, a_stack, a_inside, a_plain, a_loopIndex, a_spanOf, a_lineIndex, a_placeIndex, a_atLine, a_atPlace, a_support, a_value, a_now, a_left), (g_parts, g_arrays, g_depth, b_ranks, b_rows, b_widths, b_formats, b_cells, b_kinds, b_numbers, b_sizes, b_values, b_firsts, b_seconds, b_at, b_spans) => ∃ (P A H : Nat) (kd ar sz bo ia ib : Nat → Nat), f_parts = nI P ∧ f_arrays = nI A ∧ f_height = nI H ∧ g_parts = nI P ∧ g_arrays = nI A ∧ g_depth = nI H ∧ sf_Rl P A H kd ar sz bo ia ib a_rankOf a_rows a_columns a_formatOf a_lines a_lineAt a_lineBegin a_placeAt a_numberAt a_kind a_number a_partA a_partB a_indexA a_indexB a_stack b_ranks b_rows b_widths b_formats b_cells b_kinds b_numbers b_sizes b_firsts b_seconds
section
variable {f_parts f_arrays f_height f_loops : Int32} {a_rankOf a_rows a_columns a_formatOf a_lines a_lineAt a_lineBegin a_placeAt a_numberAt a_kind a_number a_partA a_partB a_indexA a_indexB a_stack a_inside a_plain a_loopIndex a_spanOf a_lineIndex a_placeIndex a_atLine a_atPlace a_support a_value a_now a_left : Nat → Int32} {g_parts g_arrays g_depth : Int32} {b_ranks b_rows b_widths b_formats b_cells b_kinds b_numbers b_sizes b_values b_firsts b_seconds b_at b_spans : Nat → Int32} {P A H : Nat} {kd ar sz bo ia ib : Nat → Nat}
theorem sf_in {k : Nat} (I : sf_Rl P A H kd ar sz bo ia ib a_rankOf a_rows a_columns a_formatOf a_lines a_lineAt a_lineBegin a_placeAt a_numberAt a_kind a_number a_partA a_partB a_indexA a_indexB a_stack b_ranks b_rows b_widths b_formats b_cells b_kinds b_numbers b_sizes b_firsts b_seconds) : i_Rel k ((nI P), (nI A), (nI H), f_loops, a_rankOf, a_rows, a_columns, a_formatOf, a_lines, a_lineAt, a_lineBegin, a_placeAt, a_numberAt, a_kind, a_number, a_partA, a_partB, a_indexA, a_indexB, a_stack, a_inside, a_plain, a_loopIndex, a_spanOf, a_lineIndex, a_placeIndex, a_atLine, a_atPlace, a_support, a_value, a_now, a_left) ((nI P), (nI A), (nI H), b_ranks, b_rows, b_widths, b_formats, b_cells, b_kinds, b_numbers, b_sizes, b_values, b_firsts, b_seconds, b_at, b_spans) := by
  unfold i_Rel
  exact ⟨P, A, H, kd, ar, sz, bo, ia, ib, rfl, rfl, rfl, rfl, rfl, rfl, I⟩
end
theorem sf_el {k : Nat} {u : SX} {v : SY} {Q : SX → SY → Prop}
    (h : ∀ (P A H : Nat) (kd ar sz bo ia ib : Nat → Nat) (f_loops : Int32) (a_rankOf a_rows a_columns a_formatOf a_lines a_lineAt a_lineBegin a_placeAt a_numberAt a_kind a_number a_partA a_partB a_indexA a_indexB a_stack a_inside a_plain a_loopIndex a_spanOf a_lineIndex a_placeIndex a_atLine a_atPlace a_support a_value a_now a_left : Nat → Int32) (b_ranks b_rows b_widths b_formats b_cells b_kinds b_numbers b_sizes b_values b_firsts b_seconds b_at b_spans : Nat → Int32), sf_Rl P A H kd ar sz bo ia ib a_rankOf a_rows a_columns a_formatOf a_lines a_lineAt a_lineBegin a_placeAt a_numberAt a_kind a_number a_partA a_partB a_indexA a_indexB a_stack b_ranks b_rows b_widths b_formats b_cells b_kinds b_numbers b_sizes b_firsts b_seconds → Q ((nI P), (nI A), (nI H), f_loops, a_rankOf, a_rows, a_columns, a_formatOf, a_lines, a_lineAt, a_lineBegin, a_placeAt, a_numberAt, a_kind, a_number, a_partA, a_partB, a_indexA, a_indexB, a_stack, a_inside, a_plain, a_loopIndex, a_spanOf, a_lineIndex, a_placeIndex, a_atLine, a_atPlace, a_support, a_value, a_now, a_left) ((nI P), (nI A), (nI H), b_ranks, b_rows, b_widths, b_formats, b_cells, b_kinds, b_numbers, b_sizes, b_values, b_firsts, b_seconds, b_at, b_spans))
    (I : i_Rel k u v) : Q u v := by
  obtain ⟨f_parts, f_arrays, f_height, f_loops, a_rankOf, a_rows, a_columns, a_formatOf, a_lines, a_lineAt, a_lineBegin, a_placeAt, a_numberAt, a_kind, a_number, a_partA, a_partB, a_indexA, a_indexB, a_stack, a_inside, a_plain, a_loopIndex, a_spanOf, a_lineIndex, a_placeIndex, a_atLine, a_atPlace, a_support, a_value, a_now, a_left⟩ := u
  obtain ⟨g_parts, g_arrays, g_depth, b_ranks, b_rows, b_widths, b_formats, b_cells, b_kinds, b_numbers, b_sizes, b_values, b_firsts, b_seconds, b_at, b_spans⟩ := v
  unfold i_Rel at I
  dsimp only at I
  obtain ⟨P, A, H, kd, ar, sz, bo, ia, ib, rfl, rfl, rfl, rfl, rfl, rfl, J⟩ := I
  exact h P A H kd ar sz bo ia ib f_loops a_rankOf a_rows a_columns a_formatOf a_lines a_lineAt a_lineBegin a_placeAt a_numberAt a_kind a_number a_partA a_partB a_indexA a_indexB a_stack a_inside a_plain a_loopIndex a_spanOf a_lineIndex a_placeIndex a_atLine a_atPlace a_support a_value a_now a_left b_ranks b_rows b_widths b_formats b_cells b_kinds b_numbers b_sizes b_values b_firsts b_seconds b_at b_spans J
/-- Y's slots but s are as they were -/
def sf_YQ (t : Nat) (yk yr yc yf ye yk' yr' yc' yf' ye' : Nat → Int32) : Prop := yk' t = yk t ∧ yr' t = yr t ∧ yc' t = yc t ∧ yf' t = yf t ∧ ∀ k, k < 36 → ye' (36 * t + k) = ye (36 * t + k)
section
variable {qk qr qc qf ql qa qb qp qn qk' qr' qc' qf' ql' qa' qb' qp' qn' yk yr yc yf ye yk' yr' yc' yf' ye' : Nat → Int32}
theorem sf_HD_tr {t R N M F : Nat} (H : sf_HD t yk yr yc yf R N M F) (Y : sf_YQ t yk yr yc yf ye yk' yr' yc' yf' ye') : sf_HD t yk' yr' yc' yf' R N M F :=
  ⟨Y.1.trans H.1, Y.2.1.trans H.2.1, Y.2.2.1.trans H.2.2.1, Y.2.2.2.1.trans H.2.2.2.1, H.2.2.2.2⟩
theorem sf_Z_tr {N M : Nat} {c c' : Nat → Int32} (h : sf_Z N M c) (e : ∀ k, k < 36 → c' k = c k) : sf_Z N M c' := fun i j hi hj z => (e _ (by omega)).trans (h i j hi hj z)
theorem sf_SL_tr {t : Nat} (h : sf_SL t qk qr qc qf ql qa qb qp qn yk yr yc yf ye) (E : sf_EQ t qk qr qc qf ql qa qb qp qn qk' qr' qc' qf' ql' qa' qb' qp' qn') (Y : sf_YQ t yk yr yc yf ye yk' yr' yc' yf' ye') :
    sf_SL t qk' qr' qc' qf' ql' qa' qb' qp' qn' yk' yr' yc' yf' ye' := by
  obtain ⟨R, N, M, F, X, H, Z⟩ := h
  exact ⟨R, N, M, F, sf_XS_tr X E (fun k hk => Y.2.2.2.2 k hk), sf_HD_tr H Y, sf_Z_tr Z (fun k hk => Y.2.2.2.2 k hk)⟩
theorem sf_AR_tr {a i j : Nat} (h : sf_AR a i j qk qr qc qf ql qa qb qp qn yk yr yc yf ye) (E : sf_EQ (6 + a) qk qr qc qf ql qa qb qp qn qk' qr' qc' qf' ql' qa' qb' qp' qn') (Y : sf_YQ (6 + a) yk yr yc yf ye yk' yr' yc' yf' ye') :
    sf_AR a i j qk' qr' qc' qf' ql' qa' qb' qp' qn' yk' yr' yc' yf' ye' := by
  obtain ⟨R, N, M, F, X, H, Z, D⟩ := h
  exact ⟨R, N, M, F, sf_XS_tr X E (fun k hk => Y.2.2.2.2 k hk), sf_HD_tr H Y, sf_Z_tr Z (fun k hk => Y.2.2.2.2 k hk), D⟩
end
section
variable {f_parts f_arrays f_height f_loops : Int32} {a_rankOf a_rows a_columns a_formatOf a_lines a_lineAt a_lineBegin a_placeAt a_numberAt a_kind a_number a_partA a_partB a_indexA a_indexB a_stack a_inside a_plain a_loopIndex a_spanOf a_lineIndex a_placeIndex a_atLine a_atPlace a_support a_value a_now a_left : Nat → Int32} {g_parts g_arrays g_depth : Int32} {b_ranks b_rows b_widths b_formats b_cells b_kinds b_numbers b_sizes b_values b_firsts b_seconds b_at b_spans : Nat → Int32} {P A H : Nat} {kd ar sz bo ia ib : Nat → Nat} {qk qr qc qf ql qa qb qp qn yk yr yc yf ye : Nat → Int32}
/-- one register is changed on both sides -/
theorem sf_Rl_s {s : Nat} (hs : s < 6) (I : sf_Rl P A H kd ar sz bo ia ib a_rankOf a_rows a_columns a_formatOf a_lines a_lineAt a_lineBegin a_placeAt a_numberAt a_kind a_number a_partA a_partB a_indexA a_indexB a_stack b_ranks b_rows b_widths b_formats b_cells b_kinds b_numbers b_sizes b_firsts b_seconds) (FX : sf_Fr s a_rankOf a_rows a_columns a_formatOf a_lines a_lineAt a_lineBegin a_placeAt a_numberAt qk qr qc qf ql qa qb qp qn) (FY : ∀ t, t < 12 → t ≠ s → sf_YQ t b_ranks b_rows b_widths b_formats b_cells yk yr yc yf ye) (S : sf_SL s qk qr qc qf ql qa qb qp qn yk yr yc yf ye) :
    sf_Rl P A H kd ar sz bo ia ib qk qr qc qf ql qa qb qp qn a_kind a_number a_partA a_partB a_indexA a_indexB a_stack yk yr yc yf ye b_kinds b_numbers b_sizes b_firsts b_seconds := by
  obtain ⟨I1, I2, I3, I4, I5⟩ := I
  refine ⟨fun t ht => ?_, fun a ha => sf_AR_tr (I2 a ha) (FX _ (by omega) (by omega)) (FY _ (by omega) (by omega)), I3, I4, I5⟩
  by_cases e : t = s
  · rw [e]
    exact S
  · exact sf_SL_tr (I1 t ht) (FX t (by omega) e) (FY t (by omega) e)
end
end
section
theorem i_up {k : Nat} {u : SX} {v : SY} (h : i_Rel k u v) : i_Rel (k + 5) u v := h
/-! length, get -/
theorem i_vc_length {k : Nat} {u : SX} {v : SY} (I : i_Rel k u v) (hk : k + 5 ≤ 2560) (v1 : Int32) (v2 : Int32) : wpX_length (fun r => wpY_length (fun r' => r' = r ∧ i_Rel (k + 5) u v) v v1 v2) u v1 v2 := by
  refine sf_el (Q := fun u v => wpX_length (fun r => wpY_length (fun r' => r' = r ∧ i_Rel (k + 5) u v) v v1 v2) u v1 v2) ?_ I
  clear I u v
  intro P A H kd ar sz bo ia ib f_loops a_rankOf a_rows a_columns a_formatOf a_lines a_lineAt a_lineBegin a_placeAt a_numberAt a_kind a_number a_partA a_partB a_indexA a_indexB a_stack a_inside a_plain a_loopIndex a_spanOf a_lineIndex a_placeIndex a_atLine a_atPlace a_support a_value a_now a_left b_ranks b_rows b_widths b_formats b_cells b_kinds b_numbers b_sizes b_values b_firsts b_seconds b_at b_spans I
  unfold wpX_length wpY_length
  dsimp only
  rcases sf_reg v1 with h | ⟨s, hs, rfl⟩
  · exact sf_bR1 h (br_f (by decide) (sf_yR1 h (br_t rfl ⟨rfl, sf_in I⟩)))
  · obtain ⟨R, N, M, F, X, HY, Z⟩ := I.1 s hs
    have hc : (nI s).toNatClampNeg = s := nI_clamp (by omega)
    have hin : vp_in (nI s) 13 := vp_in_nI (by omega) (by omega)
    rw [hc, X.1.2.1, X.1.2.2.1, HY.2.1, HY.2.2.1]
    refine sf_bR0 hs (br_t rfl (br_c (fun a => ?_) (fun a => br_c (fun b => br_c (fun d => ?_) (fun d => ?_)) (fun b => ?_))))
    · exact sf_yR0 hs (br_f (by decide) (br_t a ⟨rfl, sf_in I⟩))
    · exact ⟨hin, sf_yR0 hs (br_f (by decide) (br_f a (br_t b (br_t d ⟨hin, rfl, sf_in I⟩))))⟩
    · exact ⟨hin, sf_yR0 hs (br_f (by decide) (br_f a (br_t b (br_f d ⟨hin, rfl, sf_in I⟩))))⟩
    · exact sf_yR0 hs (br_f (by decide) (br_f a (br_f b ⟨rfl, sf_in I⟩)))
section
variable {g_parts g_arrays g_depth : Int32} {b_ranks b_rows b_widths b_formats b_cells b_kinds b_numbers b_sizes b_values b_firsts b_seconds b_at b_spans : Nat → Int32}
theorem sf_yget {post : Int32 → Prop} {s i j R N M F : Nat} (hs : s < 6) (H : sf_HD s b_ranks b_rows b_widths b_formats R N M F) (hi : i < N) (hj : j < M) (k : post (b_cells (36 * s + (6 * i + j)))) : wpY_get post (g_parts, g_arrays, g_depth, b_ranks, b_rows, b_widths, b_formats, b_cells, b_kinds, b_numbers, b_sizes, b_values, b_firsts, b_seconds, b_at, b_spans) (nI s) (nI i) (nI j) := by
  have hb := sf_shb H.2.2.2.2
  unfold wpY_get
  dsimp only
  rw [sf_366, nI_clamp (by omega)]
  exact sf_yR0 hs (br_f (by decide) (sf_yP0 (by omega) H hi hj (br_f (by decide) ⟨vp_in_nI (by omega) (by omega), k⟩)))
theorem sf_yput {post : Int32 → SY → Prop} {s i j R N M F : Nat} {x : Int32} (hs : s < 6) (H : sf_HD s b_ranks b_rows b_widths b_formats R N M F) (hi : i < N) (hj : j < M) (k : post (b_cells (36 * s + (6 * i + j))) (g_parts, g_arrays, g_depth, b_ranks, b_rows, b_widths, b_formats, (upd b_cells (36 * s + (6 * i + j)) x), b_kinds, b_numbers, b_sizes, b_values, b_firsts, b_seconds, b_at, b_spans)) : wpY_put post (g_parts, g_arrays, g_depth, b_ranks, b_rows, b_widths, b_formats, b_cells, b_kinds, b_numbers, b_sizes, b_values, b_firsts, b_seconds, b_at, b_spans) (nI s) (nI i) (nI j) x := by
  have hb := sf_shb H.2.2.2.2
  unfold wpY_put
  dsimp only
  rw [sf_366, nI_clamp (by omega)]
  exact sf_yR0 hs (br_f (by decide) (sf_yP0 (by omega) H hi hj (br_f (by decide) ⟨vp_in_nI (by omega) (by omega), nm_e ⟨vp_in_nI (by omega) (by omega), nm_e k⟩⟩)))
end
theorem i_vc_get {k : Nat} {u : SX} {v : SY} (I : i_Rel k u v) (hk : k + 5 ≤ 2560) (v1 : Int32) (v2 : Int32) (v3 : Int32) : wpX_get (fun r => wpY_get (fun r' => r' = r ∧ i_Rel (k + 5) u v) v v1 v2 v3) u v1 v2 v3 := by
  refine sf_el (Q := fun u v => wpX_get (fun r => wpY_get (fun r' => r' = r ∧ i_Rel (k + 5) u v) v v1 v2 v3) u v1 v2 v3) ?_ I
  clear I u v
  intro P A H kd ar sz bo ia ib f_loops a_rankOf a_rows a_columns a_formatOf a_lines a_lineAt a_lineBegin a_placeAt a_numberAt a_kind a_number a_partA a_partB a_indexA a_indexB a_stack a_inside a_plain a_loopIndex a_spanOf a_lineIndex a_placeIndex a_atLine a_atPlace a_support a_value a_now a_left b_ranks b_rows b_widths b_formats b_cells b_kinds b_numbers b_sizes b_values b_firsts b_seconds b_at b_spans I
  rcases sf_reg v1 with h | ⟨s, hs, rfl⟩
  · unfold wpX_get wpY_get
    exact sf_bR1 h (br_f (by decide) (sf_yR1 h (br_t rfl ⟨rfl, sf_in I⟩)))
  · obtain ⟨R, N, M, F, X, HY, Z⟩ := I.1 s hs
    have hb := sf_shb HY.2.2.2.2
    rcases sf_plc (N := N) (M := M) (by omega) (by omega) v2 v3 with h | ⟨i, j, hi, hj, rfl, rfl⟩
    · unfold wpX_get wpY_get
      exact sf_bR0 hs (br_t rfl (sf_nP1 (by omega) X.1 h (br_f (by decide) (sf_yR0 hs (br_f (by decide) (sf_yP1 (by omega) HY h (br_t rfl ⟨rfl, sf_in I⟩)))))))
    · exact sf_get hs X hi hj (sf_yget hs HY hi hj ⟨rfl, sf_in I⟩)
/-! put -/
theorem sf_any_iff {f g : Nat → Int32} : ∀ n, (∀ k, k < n → (f k = 0 ↔ g k = 0)) → sf_any f n = sf_any g n
  | 0, _ => rfl
  | n + 1, h => by
    show (sf_any f n || decide (¬ f n = 0)) = (sf_any g n || decide (¬ g n = 0))
    rw [sf_any_iff n (fun k hk => h k (by omega)), decide_eq_decide.mpr (not_congr (h n (by omega)))]
theorem sf_XS_put {s R N M F l p : Nat} {qk qr qc qf ql qa qb qp qn c : Nat → Int32} {x : Int32} (X : sf_XS s qk qr qc qf ql qa qb qp qn R N M F c) (hl : l < sf_LC R N M F) (hp : p < sf_LL R N M F) (kl : sf_kl R N M F c l = true) (kp : sf_kp R F c l p = true) (h0 : ¬ c (sf_ix R F l p) = 0) (hx : ¬ x = 0) :
    sf_XS s qk qr qc qf ql qa qb qp (upd qn (36 * s + (sf_bg (sf_kl R N M F c) (sf_kp R F c) (sf_LL R N M F) l + sf_cn (sf_kp R F c l) p)) x) R N M F (upd c (sf_ix R F l p) x) := by
  obtain ⟨H, P⟩ := X
  have hd := sf_dimb H.2.2.2.2
  have hz : ∀ y, upd c (sf_ix R F l p) x y = 0 ↔ c y = 0 := by
    intro y
    by_cases e : y = sf_ix R F l p
    · rw [e, pk_us]
      exact ⟨fun w => absurd w hx, fun w => absurd w h0⟩
    · rw [pk_un e]
  have P2 : sf_PK s ql qa qb qp (upd qn (36 * s + (sf_bg (sf_kl R N M F c) (sf_kp R F c) (sf_LL R N M F) l + sf_cn (sf_kp R F c l) p)) x) (sf_LC R N M F) (sf_LL R N M F) (sf_kl R N M F c) (sf_kp R F c) (fun l' p' => upd c (sf_ix R F l p) x (sf_ix R F l' p')) := by
    refine ⟨P.1, P.2.1, fun m hm km => ⟨(P.2.2 m hm km).1, fun q hq kq => ⟨((P.2.2 m hm km).2 q hq kq).1, ?_⟩⟩⟩
    by_cases e : m = l ∧ q = p
    · rw [e.1, e.2, pk_us]
      dsimp only
      rw [pk_us]
    · have n1 : sf_bg (sf_kl R N M F c) (sf_kp R F c) (sf_LL R N M F) m + sf_cn (sf_kp R F c m) q ≠ sf_bg (sf_kl R N M F c) (sf_kp R F c) (sf_LL R N M F) l + sf_cn (sf_kp R F c l) p := fun w => e (sf_pos_inj hm km hq kq hl kl hp kp w)
      have n2 : sf_ix R F m q ≠ sf_ix R F l p := fun w => e (sf_ix_inj H.2.2.2.2 hm hq hl hp w)
      rw [pk_un (by omega)]
      dsimp only
      rw [pk_un n2]
      exact ((P.2.2 m hm km).2 q hq kq).2
  refine ⟨H, sf_PK_tr P2 hd.2.1 hd.2.2.2 (sf_E5_rf _ _ _ _ _ _) (fun m hm => ?_) (fun m q hm hq => ?_) (fun m q hm hq => rfl)⟩
  · unfold sf_kl
    rw [sf_any_iff (f := fun p_1 => upd c (sf_ix R F l p) x (sf_ix R F m p_1)) (g := fun p => c (sf_ix R F m p)) _ (fun q hq => hz _)]
  · unfold sf_kp
    rw [decide_eq_decide.mpr (not_congr (hz (sf_ix R F m q)))]
section
variable {f_parts f_arrays f_height f_loops : Int32} {a_rankOf a_rows a_columns a_formatOf a_lines a_lineAt a_lineBegin a_placeAt a_numberAt a_kind a_number a_partA a_partB a_indexA a_indexB a_stack a_inside a_plain a_loopIndex a_spanOf a_lineIndex a_placeIndex a_atLine a_atPlace a_support a_value a_now a_left : Nat → Int32}
theorem sf_put84 {post : Int32 → SX → Prop} {s i j R N M F : Nat} {c : Nat → Int32} {x : Int32} (hs : s < 6) (X : sf_XS s a_rankOf a_rows a_columns a_formatOf a_lines a_lineAt a_lineBegin a_placeAt a_numberAt R N M F c) (Z : sf_Z N M c) (hi : i < N) (hj : j < M)
    (h : ∀ qk qr qc qf ql qa qb qp qn pl, sf_Fr s a_rankOf a_rows a_columns a_formatOf a_lines a_lineAt a_lineBegin a_placeAt a_numberAt qk qr qc qf ql qa qb qp qn → sf_XS s qk qr qc qf ql qa qb qp qn R N M F (upd c (6 * i + j) x) → post (c (6 * i + j)) (f_parts, f_arrays, f_height, f_loops, qk, qr, qc, qf, ql, qa, qb, qp, qn, a_kind, a_number, a_partA, a_partB, a_indexA, a_indexB, a_stack, a_inside, pl, a_loopIndex, a_spanOf, a_lineIndex, a_placeIndex, a_atLine, a_atPlace, a_support, a_value, a_now, a_left)) : wX_put_84 post (nI s) (nI i) (nI j) x (c (6 * i + j)) f_parts f_arrays f_height f_loops a_rankOf a_rows a_columns a_formatOf a_lines a_lineAt a_lineBegin a_placeAt a_numberAt a_kind a_number a_partA a_partB a_indexA a_indexB a_stack a_inside a_plain a_loopIndex a_spanOf a_lineIndex a_placeIndex a_atLine a_atPlace a_support a_value a_now a_left := by
  have hc : (nI s).toNatClampNeg = s := nI_clamp (by omega)
  have hin : vp_in (nI s) 13 := vp_in_nI (by omega) (by omega)
  have hb := sf_shb X.1.2.2.2.2
  unfold wX_put_84
  refine br_c (fun e => ?_) (fun e => sf_unpack (by omega) X Z (fun pl hpl => ?_))
  · refine h _ _ _ _ _ _ _ _ _ _ (fun t _ _ => sf_EQ_rf _ _ _ _ _ _ _ _ _ _) (sf_XS_tr X (sf_EQ_rf _ _ _ _ _ _ _ _ _ _) (fun y hy => ?_))
    by_cases e2 : y = 6 * i + j
    · rw [e2, pk_us, e]
    · rw [pk_un e2]
  · dsimp only
    rw [sf_6, nI_clamp (by omega), hc, X.1.1, X.1.2.1, X.1.2.2.1, X.1.2.2.2.1]
    refine ⟨vp_in_nI (by omega) (by omega), nm_e ⟨hin, hin, hin, hin, sf_pack (c := upd c (6 * i + j) x) (by omega) X.1.2.2.2.2 (fun y hy => ?_) (fun qk qr qc qf ql qa qb qp qn FR X2 => h _ _ _ _ _ _ _ _ _ _ FR X2)⟩⟩
    by_cases e2 : y = 6 * i + j
    · rw [e2, pk_us, pk_us]
    · rw [pk_un e2, pk_un e2]
      exact hpl y hy
theorem sf_put {post : Int32 → SX → Prop} {s i j R N M F : Nat} {c : Nat → Int32} {x : Int32} (hs : s < 6) (X : sf_XS s a_rankOf a_rows a_columns a_formatOf a_lines a_lineAt a_lineBegin a_placeAt a_numberAt R N M F c) (Z : sf_Z N M c) (hi : i < N) (hj : j < M)
    (h : ∀ qk qr qc qf ql qa qb qp qn pl, sf_Fr s a_rankOf a_rows a_columns a_formatOf a_lines a_lineAt a_lineBegin a_placeAt a_numberAt qk qr qc qf ql qa qb qp qn → sf_XS s qk qr qc qf ql qa qb qp qn R N M F (upd c (6 * i + j) x) → post (c (6 * i + j)) (f_parts, f_arrays, f_height, f_loops, qk, qr, qc, qf, ql, qa, qb, qp, qn, a_kind, a_number, a_partA, a_partB, a_indexA, a_indexB, a_stack, a_inside, pl, a_loopIndex, a_spanOf, a_lineIndex, a_placeIndex, a_atLine, a_atPlace, a_support, a_value, a_now, a_left)) : wpX_put post (f_parts, f_arrays, f_height, f_loops, a_rankOf, a_rows, a_columns, a_formatOf, a_lines, a_lineAt, a_lineBegin, a_placeAt, a_numberAt, a_kind, a_number, a_partA, a_partB, a_indexA, a_indexB, a_stack, a_inside, a_plain, a_loopIndex, a_spanOf, a_lineIndex, a_placeIndex, a_atLine, a_atPlace, a_support, a_value, a_now, a_left) (nI s) (nI i) (nI j) x := by
  have hd := sf_dimb X.1.2.2.2.2
  unfold wpX_put
  refine sf_bR0 hs (br_t rfl (sf_nP0 (by omega) X.1 hi hj (br_t rfl (sf_position (by omega) X hi hj (fun l p hl hp e k1 k2 => ?_) (fun z => br_t rfl ?_)))))
  · have q := sf_pos36 hd.2.1 hd.2.2.2 hl k1 hp k2
    have ev := ((X.2.2.2 l hl k1).2 p hp k2).2
    dsimp only at ev
    rw [e] at ev
    refine br_f (sf_nm1 (by omega)) (And.intro (by rw [sf_36]; exact vp_in_nI (by omega) (by omega)) ?_)
    rw [sf_36, nI_clamp (by omega), ev]
    unfold wX_put_55
    refine br_c (fun z => sf_put84 hs X Z hi hj h) (fun z => br_c (fun z2 => sf_put84 hs X Z hi hj h) (fun z2 => And.intro (by rw [sf_36]; exact vp_in_nI (by omega) (by omega)) ?_))
    rw [sf_36, nI_clamp (by omega)]
    rw [← e] at h z
    refine nm_e ?_
    have r := h _ _ _ _ _ _ _ _ _ a_plain (fun t ht hne => ⟨rfl, rfl, rfl, rfl, rfl, fun _ _ => rfl, fun _ _ => rfl, fun k hk => ⟨rfl, pk_un (by omega)⟩⟩) (sf_XS_put (x := x) X hl hp k1 k2 z z2)
    rw [e] at r
    exact r
  · unfold wX_put_55
    refine br_t rfl ?_
    have r := sf_put84 (x := x) (a_plain := a_plain) hs X Z hi hj h
    rw [z] at r
    exact r
end
/-- the numbers of a slot after one was put -/
theorem sf_upc {ce : Nat → Int32} {s m : Nat} {x : Int32} {k : Nat} : upd ce (36 * s + m) x (36 * s + k) = upd (fun k => ce (36 * s + k)) m x k := by
  by_cases e : k = m
  · rw [e, pk_us, pk_us]
  · rw [pk_un e, pk_un (by omega)]
theorem i_vc_put {k : Nat} {u : SX} {v : SY} (I : i_Rel k u v) (hk : k + 5 ≤ 2560) (v1 : Int32) (v2 : Int32) (v3 : Int32) (v4 : Int32) : wpX_put (fun r u' => wpY_put (fun r' v' => r' = r ∧ i_Rel (k + 5) u' v') v v1 v2 v3 v4) u v1 v2 v3 v4 := by
  refine sf_el (Q := fun u v => wpX_put (fun r u' => wpY_put (fun r' v' => r' = r ∧ i_Rel (k + 5) u' v') v v1 v2 v3 v4) u v1 v2 v3 v4) ?_ I
  clear I u v
  intro P A H kd ar sz bo ia ib f_loops a_rankOf a_rows a_columns a_formatOf a_lines a_lineAt a_lineBegin a_placeAt a_numberAt a_kind a_number a_partA a_partB a_indexA a_indexB a_stack a_inside a_plain a_loopIndex a_spanOf a_lineIndex a_placeIndex a_atLine a_atPlace a_support a_value a_now a_left b_ranks b_rows b_widths b_formats b_cells b_kinds b_numbers b_sizes b_values b_firsts b_seconds b_at b_spans I
  rcases sf_reg v1 with h | ⟨s, hs, rfl⟩
  · unfold wpX_put wpY_put
    exact sf_bR1 h (br_f (by decide) (sf_yR1 h (br_t rfl ⟨rfl, sf_in I⟩)))
  · obtain ⟨R, N, M, F, X, HY, Z⟩ := I.1 s hs
    have hb := sf_shb HY.2.2.2.2
    rcases sf_plc (N := N) (M := M) (by omega) (by omega) v2 v3 with h | ⟨i, j, hi, hj, rfl, rfl⟩
    · unfold wpX_put wpY_put
      exact sf_bR0 hs (br_t rfl (sf_nP1 (by omega) X.1 h (br_f (by decide) (sf_yR0 hs (br_f (by decide) (sf_yP1 (by omega) HY h (br_t rfl ⟨rfl, sf_in I⟩)))))))
    · refine sf_put hs X Z hi hj (fun qk qr qc qf ql qa qb qp qn pl FR X2 => sf_yput hs HY hi hj ⟨rfl, sf_in (sf_Rl_s hs I FR (fun t ht hne => ⟨rfl, rfl, rfl, rfl, fun y hy => pk_un (by omega)⟩) ⟨R, N, M, F, ?_, HY, ?_⟩)⟩)
      · exact sf_XS_tr X2 (sf_EQ_rf _ _ _ _ _ _ _ _ _ _) (fun y hy => sf_upc)
      · intro i' j' hi' hj' hn
        dsimp only
        rw [pk_un (by omega)]
        exact Z i' j' hi' hj' hn
end
section
theorem sf_Shp_f {R N M F F' : Nat} (h : sf_Shp R N M F) (hF : F' ≤ sf_most R) : sf_Shp R N M F' := by
  unfold sf_most at hF
  unfold sf_Shp at h ⊢
  by_cases a : R = 0
  · rw [if_pos a] at hF
    omega
  · rw [if_neg a] at hF
    by_cases b : R = 1
    · rw [if_pos b] at hF
      omega
    · rw [if_neg b] at hF
      omega
theorem i_vc_format {k : Nat} {u : SX} {v : SY} (I : i_Rel k u v) (hk : k + 5 ≤ 2560) (v1 : Int32) (v2 : Int32) : wpX_format (fun r u' => wpY_format (fun r' v' => r' = r ∧ i_Rel (k + 5) u' v') v v1 v2) u v1 v2 := by
  refine sf_el (Q := fun u v => wpX_format (fun r u' => wpY_format (fun r' v' => r' = r ∧ i_Rel (k + 5) u' v') v v1 v2) u v1 v2) ?_ I
  clear I u v
  intro P A H kd ar sz bo ia ib f_loops a_rankOf a_rows a_columns a_formatOf a_lines a_lineAt a_lineBegin a_placeAt a_numberAt a_kind a_number a_partA a_partB a_indexA a_indexB a_stack a_inside a_plain a_loopIndex a_spanOf a_lineIndex a_placeIndex a_atLine a_atPlace a_support a_value a_now a_left b_ranks b_rows b_widths b_formats b_cells b_kinds b_numbers b_sizes b_values b_firsts b_seconds b_at b_spans I
  unfold wpX_format wpY_format
  dsimp only
  rcases sf_reg v1 with h | ⟨s, hs, rfl⟩
  · exact sf_bR1 h (br_f (by decide) (sf_yR1 h (br_t rfl ⟨rfl, sf_in I⟩)))
  · obtain ⟨R, N, M, F, X, HY, Z⟩ := I.1 s hs
    have hb := sf_shb HY.2.2.2.2
    have hc : (nI s).toNatClampNeg = s := nI_clamp (by omega)
    have hin : vp_in (nI s) 13 := vp_in_nI (by omega) (by omega)
    rw [hc, X.1.1, HY.1]
    refine sf_bR0 hs (br_t rfl (And.intro hin ?_))
    rcases sf_fmt R v2 with h | ⟨F', hF', rfl⟩
    · exact sf_bF1 (by omega) h (br_f (by decide) (sf_yR0 hs (br_f (by decide) (And.intro hin (sf_yF1 (by omega) h (br_t rfl ⟨rfl, sf_in I⟩))))))
    · have S' := sf_Shp_f HY.2.2.2.2 hF'
      refine sf_bF0 (by omega) hF' (br_t rfl (sf_unpack (by omega) X Z (fun pl hpl => ?_)))
      dsimp only
      rw [X.1.1, X.1.2.1, X.1.2.2.1]
      refine ⟨hin, hin, hin, sf_pack (by omega) S' hpl (fun qk qr qc qf ql qa qb qp qn FR X2 => ?_)⟩
      refine sf_roomOf (by omega) X2 ?_
      have HY' : sf_HD s b_ranks b_rows b_widths (upd b_formats s (nI F')) R N M F' := ⟨HY.1, HY.2.1, HY.2.2.1, pk_us, S'⟩
      refine sf_yR0 hs (br_f (by decide) (And.intro hin (sf_yF0 (by omega) hF' (br_f (by decide) (And.intro hin (nm_e (sf_countRoom (by omega) HY' ⟨rfl, sf_in (sf_Rl_s hs I FR (fun t ht hne => ⟨rfl, rfl, rfl, pk_un hne, fun y hy => rfl⟩) ⟨R, N, M, F', X2, HY', Z⟩)⟩)))))))
theorem i_vc_room {k : Nat} {u : SX} {v : SY} (I : i_Rel k u v) (hk : k + 5 ≤ 2560) (v1 : Int32) : wpX_room (fun r => wpY_room (fun r' => r' = r ∧ i_Rel (k + 5) u v) v v1) u v1 := by
  refine sf_el (Q := fun u v => wpX_room (fun r => wpY_room (fun r' => r' = r ∧ i_Rel (k + 5) u v) v v1) u v1) ?_ I
  clear I u v
  intro P A H kd ar sz bo ia ib f_loops a_rankOf a_rows a_columns a_formatOf a_lines a_lineAt a_lineBegin a_placeAt a_numberAt a_kind a_number a_partA a_partB a_indexA a_indexB a_stack a_inside a_plain a_loopIndex a_spanOf a_lineIndex a_placeIndex a_atLine a_atPlace a_support a_value a_now a_left b_ranks b_rows b_widths b_formats b_cells b_kinds b_numbers b_sizes b_values b_firsts b_seconds b_at b_spans I
  unfold wpX_room wpY_room
  dsimp only
  rcases sf_reg v1 with h | ⟨s, hs, rfl⟩
  · exact sf_bR1 h (br_f (by decide) (sf_yR1 h (br_t rfl ⟨rfl, sf_in I⟩)))
  · obtain ⟨R, N, M, F, X, HY, Z⟩ := I.1 s hs
    exact sf_bR0 hs (br_t rfl (sf_roomOf (by omega) X (sf_yR0 hs (br_f (by decide) (sf_countRoom (by omega) HY ⟨rfl, sf_in I⟩)))))
/-! filled -/
theorem sf_fl_p {s C W : Nat} {ql qa qb qp qn : Nat → Int32} {kl : Nat → Bool} {kp : Nat → Nat → Bool} {g : Nat → Nat → Int32} (P : sf_PK s ql qa qb qp qn C W kl kp g) (z2 : ∀ l p, kp l p = false → g l p = 0) {l : Nat} (hl : l < C) (hk : kl l = true) :
    ∀ p, p ≤ W → sf_cn (fun e => sf_nz (qn (36 * s + e))) (sf_bg kl kp W l + sf_cn (kp l) p) = sf_cn (fun e => sf_nz (qn (36 * s + e))) (sf_bg kl kp W l) + sf_cn (fun p => sf_nz (g l p)) p
  | 0, _ => rfl
  | p + 1, hp => by
    have ih := sf_fl_p P z2 hl hk p (by omega)
    cases e : kp l p with
    | true =>
      have v := ((P.2.2 l hl hk).2 p (by omega) e).2
      rw [sf_cn_t e]
      show sf_cn _ (sf_bg kl kp W l + sf_cn (kp l) p) + (if sf_nz (qn (36 * s + (sf_bg kl kp W l + sf_cn (kp l) p))) = true then 1 else 0) = _ + (sf_cn (fun p => sf_nz (g l p)) p + (if sf_nz (g l p) = true then 1 else 0))
      rw [ih, v]
      omega
    | false =>
      have v := z2 l p e
      rw [sf_cn_f e, sf_cn_f (f := fun p => sf_nz (g l p)) (sf_nz_f v)]
      exact ih
theorem sf_fl_l {s C W : Nat} {ql qa qb qp qn : Nat → Int32} {kl : Nat → Bool} {kp : Nat → Nat → Bool} {g : Nat → Nat → Int32} (P : sf_PK s ql qa qb qp qn C W kl kp g) (z1 : ∀ l, kl l = false → ∀ p, p < W → g l p = 0) (z2 : ∀ l p, kp l p = false → g l p = 0) :
    ∀ l, l ≤ C → sf_cn (fun e => sf_nz (qn (36 * s + e))) (sf_bg kl kp W l) = sf_sn (fun l => sf_cn (fun p => sf_nz (g l p)) W) l
  | 0, _ => rfl
  | l + 1, hl => by
    have ih := sf_fl_l P z1 z2 l (by omega)
    show _ = sf_sn (fun l => sf_cn (fun p => sf_nz (g l p)) W) l + sf_cn (fun p => sf_nz (g l p)) W
    cases e : kl l with
    | true =>
      rw [sf_bg_t e, sf_fl_p P z2 (by omega) e W (Nat.le_refl _), ih]
    | false =>
      rw [sf_bg_f e, ih, sf_cn_none W (fun p hp => sf_nz_f (z1 l e p hp))]
      rfl
theorem sf_fl_eq {s R N M F : Nat} {qk qr qc qf ql qa qb qp qn c : Nat → Int32} (X : sf_XS s qk qr qc qf ql qa qb qp qn R N M F c) : sf_cn (fun e => sf_nz (qn (36 * s + e))) (sf_bg (sf_kl R N M F c) (sf_kp R F c) (sf_LL R N M F) (sf_LC R N M F)) = sf_sn (fun i => sf_cn (fun j => sf_nz (c (6 * i + j))) M) N := by
  have hS := X.1.2.2.2.2
  rw [sf_fl_l X.2 (fun l h p hp => sf_kl_f h hp) (fun l p h => sf_kp_f h) _ (Nat.le_refl _)]
  have hd := sf_dims hS
  rcases hd with ⟨d1, d2, d3⟩ | ⟨d1, d2, d3, d4⟩ | ⟨d1, d2, d3, d4⟩
  · have eM : M = 1 := by
      unfold sf_Shp at hS
      omega
    rw [d2, d3, eM]
    show 0 + sf_cn (fun p => sf_nz (c (sf_ix R F 0 p))) N = _
    rw [Nat.zero_add, sf_cn_sn]
    refine sf_sn_congr N (fun i hi => ?_)
    have x : sf_ix R F 0 i = 6 * i := by
      have := sf_ixs R F 0 i
      omega
    show _ = 0 + (if sf_nz (c (6 * i + 0)) = true then 1 else 0)
    rw [x, Nat.zero_add]
    rfl
  · rw [d3, d4]
    refine sf_sn_congr N (fun i hi => sf_cn_congr M (fun j hj => ?_))
    have x : sf_ix R F i j = 6 * i + j := by
      have := sf_ixs R F i j
      omega
    rw [x]
  · rw [d3, d4]
    have e1 : sf_sn (fun l => sf_cn (fun p => sf_nz (c (sf_ix R F l p))) N) M = sf_sn (fun l => sf_sn (fun p => if sf_nz (c (6 * p + l)) = true then 1 else 0) N) M := by
      refine sf_sn_congr M (fun l hl => ?_)
      rw [sf_cn_sn]
      refine sf_sn_congr N (fun p hp => ?_)
      have x : sf_ix R F l p = 6 * p + l := by
        have := sf_ixs R F l p
        omega
      rw [x]
    rw [e1, sf_sn_swap]
    refine sf_sn_congr N (fun i hi => ?_)
    rw [sf_cn_sn]
section
variable {f_parts f_arrays f_height f_loops : Int32} {a_rankOf a_rows a_columns a_formatOf a_lines a_lineAt a_lineBegin a_placeAt a_numberAt a_kind a_number a_partA a_partB a_indexA a_indexB a_stack a_inside a_plain a_loopIndex a_spanOf a_lineIndex a_placeIndex a_atLine a_atPlace a_support a_value a_now a_left : Nat → Int32}
theorem sf_xfl_l {post : Int32 → Prop} {s T : Nat} (hs : s < 13) (hT : T ≤ 36) (h : post (nI (sf_cn (fun e => sf_nz (a_numberAt (36 * s + e))) T))) :
    ∀ d e, e + d = T → wX_filled_22 post (nI s) (nI T) f_parts f_arrays f_height f_loops a_rankOf a_rows a_columns a_formatOf a_lines a_lineAt a_lineBegin a_placeAt a_numberAt a_kind a_number a_partA a_partB a_indexA a_indexB a_stack a_inside a_plain a_loopIndex a_spanOf a_lineIndex a_placeIndex a_atLine a_atPlace a_support a_value a_now a_left (d + 1) (nI (sf_cn (fun e => sf_nz (a_numberAt (36 * s + e))) e)) (nI e) := by
  intro d
  induction d with
  | zero =>
    intro e he
    have e' : e = T := by omega
    rw [e']
    exact br_t (nI_le (Nat.le_refl _) (by omega)) h
  | succ d ih =>
    intro e he
    have n := ih (e + 1) (by omega)
    refine br_f (nI_ge (by omega) (by omega)) (And.intro (by rw [sf_36]; exact vp_in_nI (by omega) (by omega)) ?_)
    rw [sf_36, nI_clamp (by omega)]
    refine br_c (fun z => nm_r (nI_1 e) ?_) (fun z => nm_r (nI_1 _) (nm_r (nI_1 e) ?_))
    · rw [sf_cn_f (f := fun e => sf_nz (a_numberAt (36 * s + e))) (sf_nz_f z)] at n
      exact n
    · rw [sf_cn_t (f := fun e => sf_nz (a_numberAt (36 * s + e))) (sf_nz_t z)] at n
      exact n
end
theorem i_vc_filled {k : Nat} {u : SX} {v : SY} (I : i_Rel k u v) (hk : k + 5 ≤ 2560) (v1 : Int32) : wpX_filled (fun r => wpY_filled (fun r' => r' = r ∧ i_Rel (k + 5) u v) v v1) u v1 := by
  refine sf_el (Q := fun u v => wpX_filled (fun r => wpY_filled (fun r' => r' = r ∧ i_Rel (k + 5) u v) v v1) u v1) ?_ I
  clear I u v
  intro P A H kd ar sz bo ia ib f_loops a_rankOf a_rows a_columns a_formatOf a_lines a_lineAt a_lineBegin a_placeAt a_numberAt a_kind a_number a_partA a_partB a_indexA a_indexB a_stack a_inside a_plain a_loopIndex a_spanOf a_lineIndex a_placeIndex a_atLine a_atPlace a_support a_value a_now a_left b_ranks b_rows b_widths b_formats b_cells b_kinds b_numbers b_sizes b_values b_firsts b_seconds b_at b_spans I
  unfold wpX_filled wpY_filled
  dsimp only
  rcases sf_reg v1 with h | ⟨s, hs, rfl⟩
  · exact sf_bR1 h (br_f (by decide) (sf_yR1 h (br_t rfl ⟨rfl, sf_in I⟩)))
  · obtain ⟨R, N, M, F, X, HY, Z⟩ := I.1 s hs
    have hd := sf_dimb HY.2.2.2.2
    have hb2 := sf_bg_36 (sf_kl R N M F (fun k => b_cells (36 * s + k))) (sf_kp R F (fun k => b_cells (36 * s + k))) hd.2.2.2 hd.2.1
    refine sf_bR0 hs (br_t rfl (sf_roomOf (by omega) X ⟨_, sf_xfl_l (by omega) hb2 ?_ _ 0 (Nat.zero_add _)⟩))
    rw [sf_fl_eq X]
    exact sf_yR0 hs (br_f (by decide) (sf_countFilled (by omega) HY ⟨rfl, sf_in I⟩))
/-! pattern -/
def sf_pat (f : Nat → Int32) : Nat → Int32
  | 0 => 0
  | j + 1 => if f j = 0 then sf_pat f j else sf_pat f j ||| ((1 : Int32) <<< (nI j &&& 31))
theorem sf_pat_0 {f : Nat → Int32} {j : Nat} (h : f j = 0) : sf_pat f (j + 1) = sf_pat f j := if_pos h
theorem sf_pat_1 {f : Nat → Int32} {j : Nat} (h : ¬ f j = 0) : sf_pat f (j + 1) = sf_pat f j ||| ((1 : Int32) <<< (nI j &&& 31)) := if_neg h
section
variable {f_parts f_arrays f_height f_loops : Int32} {a_rankOf a_rows a_columns a_formatOf a_lines a_lineAt a_lineBegin a_placeAt a_numberAt a_kind a_number a_partA a_partB a_indexA a_indexB a_stack a_inside a_plain a_loopIndex a_spanOf a_lineIndex a_placeIndex a_atLine a_atPlace a_support a_value a_now a_left : Nat → Int32}
theorem sf_xpat {post : Int32 → Prop} {s i R N M F : Nat} {c : Nat → Int32} (hs : s < 6) (X : sf_XS s a_rankOf a_rows a_columns a_formatOf a_lines a_lineAt a_lineBegin a_placeAt a_numberAt R N M F c) (hi : i < N) (h : post (sf_pat (fun j => c (6 * i + j)) M)) :
    ∀ d j, j + d = M → wX_pattern_33 post (nI s) (nI i) f_parts f_arrays f_height f_loops a_rankOf a_rows a_columns a_formatOf a_lines a_lineAt a_lineBegin a_placeAt a_numberAt a_kind a_number a_partA a_partB a_indexA a_indexB a_stack a_inside a_plain a_loopIndex a_spanOf a_lineIndex a_placeIndex a_atLine a_atPlace a_support a_value a_now a_left (d + 1) (sf_pat (fun j => c (6 * i + j)) j) (nI j) := by
  have hb := sf_shb X.1.2.2.2.2
  have hc : (nI s).toNatClampNeg = s := nI_clamp (by omega)
  have hin : vp_in (nI s) 13 := vp_in_nI (by omega) (by omega)
  have hr : a_columns (nI s).toNatClampNeg = nI M := by
    rw [hc]
    exact X.1.2.2.1
  intro d
  induction d with
  | zero =>
    intro j hj
    have e : j = M := by omega
    rw [e]
    refine And.intro hin (br_t ?_ h)
    rw [hr]
    exact nI_le (Nat.le_refl _) (by omega)
  | succ d ih =>
    intro j hj
    have n := ih (j + 1) (by omega)
    refine And.intro hin (br_f ?_ (sf_get hs X hi (by omega) (br_c (fun z => nm_r (nI_1 j) ?_) (fun z => nm_e (nm_r (nI_1 j) ?_)))))
    · rw [hr]
      exact nI_ge (by omega) (by omega)
    · rw [sf_pat_0 (f := fun j => c (6 * i + j)) z] at n
      exact n
    · rw [sf_pat_1 (f := fun j => c (6 * i + j)) z] at n
      exact n
end
section
variable {g_parts g_arrays g_depth : Int32} {b_ranks b_rows b_widths b_formats b_cells b_kinds b_numbers b_sizes b_values b_firsts b_seconds b_at b_spans : Nat → Int32}
theorem sf_ypat {post : Int32 → Prop} {s i R N M F : Nat} (hs : s < 6) (H : sf_HD s b_ranks b_rows b_widths b_formats R N M F) (hi : i < N) (h : post (sf_pat (fun j => b_cells (36 * s + (6 * i + j))) M)) :
    ∀ d j, j + d = M → wY_pattern_33 post (nI s) (nI i) g_parts g_arrays g_depth b_ranks b_rows b_widths b_formats b_cells b_kinds b_numbers b_sizes b_values b_firsts b_seconds b_at b_spans (d + 1) (sf_pat (fun j => b_cells (36 * s + (6 * i + j))) j) (nI j) := by
  have hb := sf_shb H.2.2.2.2
  have hc : (nI s).toNatClampNeg = s := nI_clamp (by omega)
  have hin : vp_in (nI s) 13 := vp_in_nI (by omega) (by omega)
  have hr : b_widths (nI s).toNatClampNeg = nI M := by
    rw [hc]
    exact H.2.2.1
  intro d
  induction d with
  | zero =>
    intro j hj
    have e : j = M := by omega
    rw [e]
    refine And.intro hin (br_t ?_ h)
    rw [hr]
    exact nI_le (Nat.le_refl _) (by omega)
  | succ d ih =>
    intro j hj
    have n := ih (j + 1) (by omega)
    refine And.intro hin (br_f ?_ (And.intro (by rw [sf_366]; exact vp_in_nI (by omega) (by omega)) ?_))
    · rw [hr]
      exact nI_ge (by omega) (by omega)
    · rw [sf_366, nI_clamp (by omega)]
      refine br_c (fun z => nm_r (nI_1 j) ?_) (fun z => nm_e (nm_r (nI_1 j) ?_))
      · rw [sf_pat_0 (f := fun j => b_cells (36 * s + (6 * i + j))) z] at n
        exact n
      · rw [sf_pat_1 (f := fun j => b_cells (36 * s + (6 * i + j))) z] at n
        exact n
end
theorem i_vc_pattern {k : Nat} {u : SX} {v : SY} (I : i_Rel k u v) (hk : k + 5 ≤ 2560) (v1 : Int32) (v2 : Int32) : wpX_pattern (fun r => wpY_pattern (fun r' => r' = r ∧ i_Rel (k + 5) u v) v v1 v2) u v1 v2 := by
  refine sf_el (Q := fun u v => wpX_pattern (fun r => wpY_pattern (fun r' => r' = r ∧ i_Rel (k + 5) u v) v v1 v2) u v1 v2) ?_ I
  clear I u v
  intro P A H kd ar sz bo ia ib f_loops a_rankOf a_rows a_columns a_formatOf a_lines a_lineAt a_lineBegin a_placeAt a_numberAt a_kind a_number a_partA a_partB a_indexA a_indexB a_stack a_inside a_plain a_loopIndex a_spanOf a_lineIndex a_placeIndex a_atLine a_atPlace a_support a_value a_now a_left b_ranks b_rows b_widths b_formats b_cells b_kinds b_numbers b_sizes b_values b_firsts b_seconds b_at b_spans I
  unfold wpX_pattern wpY_pattern
  dsimp only
  rcases sf_reg v1 with h | ⟨s, hs, rfl⟩
  · exact sf_bR1 h (br_f (by decide) (sf_yR1 h (br_t rfl ⟨rfl, sf_in I⟩)))
  · obtain ⟨R, N, M, F, X, HY, Z⟩ := I.1 s hs
    have hb := sf_shb HY.2.2.2.2
    have hc : (nI s).toNatClampNeg = s := nI_clamp (by omega)
    have hin : vp_in (nI s) 13 := vp_in_nI (by omega) (by omega)
    rw [hc, X.1.2.1, HY.2.1]
    rcases pk_ix v2 (n := N) (by omega) with h | h | ⟨i, hi, rfl⟩
    · exact sf_bR0 hs (br_t rfl (br_t h (sf_yR0 hs (br_f (by decide) (br_t h ⟨rfl, sf_in I⟩)))))
    · have h2 := Int32.not_lt.mpr h
      exact sf_bR0 hs (br_t rfl (br_c (fun a => sf_yR0 hs (br_f (by decide) (br_t a ⟨rfl, sf_in I⟩))) (fun a => ⟨hin, br_f h2 (sf_yR0 hs (br_f (by decide) (br_f a ⟨hin, br_f h2 ⟨rfl, sf_in I⟩⟩)))⟩)))
    · have a : ¬ nI i < 0 := nI_pos (by omega)
      have b : nI i < nI N := nI_lt hi (by omega)
      exact sf_bR0 hs (br_t rfl (br_f a ⟨hin, br_t b ⟨_, sf_xpat hs X hi (sf_yR0 hs (br_f (by decide) (br_f a ⟨hin, br_t b ⟨_, sf_ypat hs HY hi ⟨rfl, sf_in I⟩ M 0 (Nat.zero_add _)⟩⟩))) M 0 (Nat.zero_add _)⟩⟩))
/-! digest -/
def sf_dg (f : Nat → Int32) : Nat → Int32
  | 0 => 0
  | k + 1 => sf_dg f k + ((((7 * (nI k / 6)) + (nI k - nI k / 6 * 6)) + 1) * (f k))
theorem sf_dg_congr {f g : Nat → Int32} : ∀ n, (∀ k, k < n → f k = g k) → sf_dg f n = sf_dg g n
  | 0, _ => rfl
  | n + 1, h => by
    show sf_dg f n + _ * (f n) = sf_dg g n + _ * (g n)
    rw [sf_dg_congr n (fun k hk => h k (by omega)), h n (by omega)]
section
variable {f_parts f_arrays f_height f_loops : Int32} {a_rankOf a_rows a_columns a_formatOf a_lines a_lineAt a_lineBegin a_placeAt a_numberAt a_kind a_number a_partA a_partB a_indexA a_indexB a_stack a_inside a_plain a_loopIndex a_spanOf a_lineIndex a_placeIndex a_atLine a_atPlace a_support a_value a_now a_left : Nat → Int32}
theorem sf_xdg {post : Int32 → SX → Prop} (h : post (sf_dg a_plain 36) (f_parts, f_arrays, f_height, f_loops, a_rankOf, a_rows, a_columns, a_formatOf, a_lines, a_lineAt, a_lineBegin, a_placeAt, a_numberAt, a_kind, a_number, a_partA, a_partB, a_indexA, a_indexB, a_stack, a_inside, a_plain, a_loopIndex, a_spanOf, a_lineIndex, a_placeIndex, a_atLine, a_atPlace, a_support, a_value, a_now, a_left)) : ∀ d k, k + d = 36 → wX_digest_20 post f_parts f_arrays f_height f_loops a_rankOf a_rows a_columns a_formatOf a_lines a_lineAt a_lineBegin a_placeAt a_numberAt a_kind a_number a_partA a_partB a_indexA a_indexB a_stack a_inside a_plain a_loopIndex a_spanOf a_lineIndex a_placeIndex a_atLine a_atPlace a_support a_value a_now a_left (d + 1) (sf_dg a_plain k) (nI k) := by
  intro d
  induction d with
  | zero =>
    intro k hk
    have e : k = 36 := by omega
    rw [e]
    exact br_t (nI_le (a := 36) (b := 36) (by omega) (by omega)) h
  | succ d ih =>
    intro k hk
    refine br_f (nI_ge (a := k) (b := 36) (by omega) (by omega)) (And.intro (by decide) (And.intro (by decide) (And.intro (vp_in_nI (by omega) (by omega)) ?_)))
    rw [nI_clamp (by omega)]
    exact nm_e (nm_r (nI_1 k) (ih (k + 1) (by omega)))
end
section
variable {g_parts g_arrays g_depth : Int32} {b_ranks b_rows b_widths b_formats b_cells b_kinds b_numbers b_sizes b_values b_firsts b_seconds b_at b_spans : Nat → Int32}
theorem sf_ydg {post : Int32 → Prop} {s : Nat} (hs : s < 6) (h : post (sf_dg (fun k => b_cells (36 * s + k)) 36)) : ∀ d k, k + d = 36 → wY_digest_15 post (nI s) g_parts g_arrays g_depth b_ranks b_rows b_widths b_formats b_cells b_kinds b_numbers b_sizes b_values b_firsts b_seconds b_at b_spans (d + 1) (sf_dg (fun k => b_cells (36 * s + k)) k) (nI k) := by
  intro d
  induction d with
  | zero =>
    intro k hk
    have e : k = 36 := by omega
    rw [e]
    exact br_t (nI_le (a := 36) (b := 36) (by omega) (by omega)) h
  | succ d ih =>
    intro k hk
    refine br_f (nI_ge (a := k) (b := 36) (by omega) (by omega)) (And.intro (by decide) (And.intro (by decide) (And.intro (by rw [sf_36]; exact vp_in_nI (by omega) (by omega)) ?_)))
    rw [sf_36, nI_clamp (by omega)]
    exact nm_e (nm_r (nI_1 k) (ih (k + 1) (by omega)))
end
theorem i_vc_digest {k : Nat} {u : SX} {v : SY} (I : i_Rel k u v) (hk : k + 5 ≤ 2560) (v1 : Int32) : wpX_digest (fun r u' => wpY_digest (fun r' => r' = r ∧ i_Rel (k + 5) u' v) v v1) u v1 := by
  refine sf_el (Q := fun u v => wpX_digest (fun r u' => wpY_digest (fun r' => r' = r ∧ i_Rel (k + 5) u' v) v v1) u v1) ?_ I
  clear I u v
  intro P A H kd ar sz bo ia ib f_loops a_rankOf a_rows a_columns a_formatOf a_lines a_lineAt a_lineBegin a_placeAt a_numberAt a_kind a_number a_partA a_partB a_indexA a_indexB a_stack a_inside a_plain a_loopIndex a_spanOf a_lineIndex a_placeIndex a_atLine a_atPlace a_support a_value a_now a_left b_ranks b_rows b_widths b_formats b_cells b_kinds b_numbers b_sizes b_values b_firsts b_seconds b_at b_spans I
  unfold wpX_digest wpY_digest
  dsimp only
  rcases sf_reg v1 with h | ⟨s, hs, rfl⟩
  · exact sf_bR1 h (br_f (by decide) (sf_yR1 h (br_t rfl ⟨rfl, sf_in I⟩)))
  · obtain ⟨R, N, M, F, X, HY, Z⟩ := I.1 s hs
    refine sf_bR0 hs (br_t rfl (sf_unpack (by omega) X Z (fun pl hpl => ⟨_, sf_xdg ?_ 36 0 rfl⟩)))
    rw [sf_dg_congr 36 hpl]
    exact sf_yR0 hs (br_f (by decide) ⟨_, sf_ydg hs ⟨rfl, sf_in I⟩ 36 0 rfl⟩)
end
section
theorem sf_most_of {R N M F : Nat} (h : sf_Shp R N M F) : F ≤ sf_most R := by
  unfold sf_Shp at h
  unfold sf_most
  by_cases a : R = 0
  · rw [if_pos a]
    omega
  · rw [if_neg a]
    by_cases b : R = 1
    · rw [if_pos b]
      omega
    · rw [if_neg b]
      omega
section
variable {f_parts f_arrays f_height f_loops : Int32} {a_rankOf a_rows a_columns a_formatOf a_lines a_lineAt a_lineBegin a_placeAt a_numberAt a_kind a_number a_partA a_partB a_indexA a_indexB a_stack a_inside a_plain a_loopIndex a_spanOf a_lineIndex a_placeIndex a_atLine a_atPlace a_support a_value a_now a_left : Nat → Int32}
theorem sf_mk36 {post : Int32 → SX → Prop} {v1 v2 v3 v4 : Int32} (h : post (-1000000001) (f_parts, f_arrays, f_height, f_loops, a_rankOf, a_rows, a_columns, a_formatOf, a_lines, a_lineAt, a_lineBegin, a_placeAt, a_numberAt, a_kind, a_number, a_partA, a_partB, a_indexA, a_indexB, a_stack, a_inside, a_plain, a_loopIndex, a_spanOf, a_lineIndex, a_placeIndex, a_atLine, a_atPlace, a_support, a_value, a_now, a_left)) : wX_make_36 post v1 v2 v3 v4 f_parts f_arrays f_height f_loops a_rankOf a_rows a_columns a_formatOf a_lines a_lineAt a_lineBegin a_placeAt a_numberAt a_kind a_number a_partA a_partB a_indexA a_indexB a_stack a_inside a_plain a_loopIndex a_spanOf a_lineIndex a_placeIndex a_atLine a_atPlace a_support a_value a_now a_left := by
  have k : ∀ z, wX_make_60 post v1 v2 v3 v4 1 z f_parts f_arrays f_height f_loops a_rankOf a_rows a_columns a_formatOf a_lines a_lineAt a_lineBegin a_placeAt a_numberAt a_kind a_number a_partA a_partB a_indexA a_indexB a_stack a_inside a_plain a_loopIndex a_spanOf a_lineIndex a_placeIndex a_atLine a_atPlace a_support a_value a_now a_left := fun z => br_f (by decide) h
  unfold wX_make_36 wX_make_41
  exact br_c (fun _ => k 0) (fun _ => br_c (fun _ => k 1) (fun _ => k 2))
theorem sf_mk40b {post : Int32 → SX → Prop} {v1 v4 : Int32} {n m R N : Nat} (hn : n ≤ 6) (hm : m ≤ 6) (h1 : (n = 0 ∧ R = 0 ∧ N = 1) ∨ (n ≠ 0 ∧ m = 0 ∧ R = 1 ∧ N = n) ∨ (n ≠ 0 ∧ m ≠ 0 ∧ R = 2 ∧ N = n))
    (hv : v4 < 0 ∨ nI (sf_most R) < v4) (h : post (-1000000001) (f_parts, f_arrays, f_height, f_loops, a_rankOf, a_rows, a_columns, a_formatOf, a_lines, a_lineAt, a_lineBegin, a_placeAt, a_numberAt, a_kind, a_number, a_partA, a_partB, a_indexA, a_indexB, a_stack, a_inside, a_plain, a_loopIndex, a_spanOf, a_lineIndex, a_placeIndex, a_atLine, a_atPlace, a_support, a_value, a_now, a_left)) : wX_make_40 post v1 (nI n) (nI m) v4 f_parts f_arrays f_height f_loops a_rankOf a_rows a_columns a_formatOf a_lines a_lineAt a_lineBegin a_placeAt a_numberAt a_kind a_number a_partA a_partB a_indexA a_indexB a_stack a_inside a_plain a_loopIndex a_spanOf a_lineIndex a_placeIndex a_atLine a_atPlace a_support a_value a_now a_left := by
  have k : ∀ z, z = nI R → wX_make_60 post v1 (nI n) (nI m) v4 0 z f_parts f_arrays f_height f_loops a_rankOf a_rows a_columns a_formatOf a_lines a_lineAt a_lineBegin a_placeAt a_numberAt a_kind a_number a_partA a_partB a_indexA a_indexB a_stack a_inside a_plain a_loopIndex a_spanOf a_lineIndex a_placeIndex a_atLine a_atPlace a_support a_value a_now a_left := by
    intro z ez
    subst ez
    exact br_t rfl (sf_bF1 (by omega) hv (br_f (by decide) h))
  unfold wX_make_40 wX_make_41
  refine pk_eq n 0 (fun a => k 0 ?_) (fun a => pk_eq m 0 (fun b => k 1 ?_) (fun b => k 2 ?_))
  · have e : R = 0 := by omega
    rw [e]
    rfl
  · have e : R = 1 := by omega
    rw [e]
    rfl
  · have e : R = 2 := by omega
    rw [e]
    rfl
theorem sf_mk40 {post : Int32 → SX → Prop} {s n m R N M F : Nat} (hs : s < 6) (hn : n ≤ 6) (hm : m ≤ 6) (h1 : (n = 0 ∧ R = 0 ∧ N = 1) ∨ (n ≠ 0 ∧ m = 0 ∧ R = 1 ∧ N = n) ∨ (n ≠ 0 ∧ m ≠ 0 ∧ R = 2 ∧ N = n)) (h2 : (m = 0 ∧ M = 1) ∨ (m ≠ 0 ∧ M = m))
    (hS : sf_Shp R N M F) (h : ∀ qk qr qc qf ql qa qb qp qn pl, sf_Fr s a_rankOf a_rows a_columns a_formatOf a_lines a_lineAt a_lineBegin a_placeAt a_numberAt qk qr qc qf ql qa qb qp qn → sf_XS s qk qr qc qf ql qa qb qp qn R N M F (fun _ => 0) → post (nI R) (f_parts, f_arrays, f_height, f_loops, qk, qr, qc, qf, ql, qa, qb, qp, qn, a_kind, a_number, a_partA, a_partB, a_indexA, a_indexB, a_stack, a_inside, pl, a_loopIndex, a_spanOf, a_lineIndex, a_placeIndex, a_atLine, a_atPlace, a_support, a_value, a_now, a_left)) : wX_make_40 post (nI s) (nI n) (nI m) (nI F) f_parts f_arrays f_height f_loops a_rankOf a_rows a_columns a_formatOf a_lines a_lineAt a_lineBegin a_placeAt a_numberAt a_kind a_number a_partA a_partB a_indexA a_indexB a_stack a_inside a_plain a_loopIndex a_spanOf a_lineIndex a_placeIndex a_atLine a_atPlace a_support a_value a_now a_left := by
  have k : ∀ z, z = nI R → wX_make_60 post (nI s) (nI n) (nI m) (nI F) 0 z f_parts f_arrays f_height f_loops a_rankOf a_rows a_columns a_formatOf a_lines a_lineAt a_lineBegin a_placeAt a_numberAt a_kind a_number a_partA a_partB a_indexA a_indexB a_stack a_inside a_plain a_loopIndex a_spanOf a_lineIndex a_placeIndex a_atLine a_atPlace a_support a_value a_now a_left := by
    intro z ez
    subst ez
    refine br_t rfl (sf_bF0 (by omega) (sf_most_of hS) (br_t rfl (sf_clear (fun pl hpl => ?_))))
    have k107 : ∀ z, z = nI M → wX_make_107 post (nI F) (nI R) z (nI N) (nI R) (nI s) f_parts f_arrays f_height f_loops a_rankOf a_rows a_columns a_formatOf a_lines a_lineAt a_lineBegin a_placeAt a_numberAt a_kind a_number a_partA a_partB a_indexA a_indexB a_stack a_inside pl a_loopIndex a_spanOf a_lineIndex a_placeIndex a_atLine a_atPlace a_support a_value a_now a_left := by
      intro z ez
      subst ez
      unfold wX_make_107
      exact sf_pack (by omega) hS hpl (fun qk qr qc qf ql qa qb qp qn FR X => h _ _ _ _ _ _ _ _ _ _ FR X)
    have k98 : ∀ z, z = nI N → wX_make_98 post (nI m) (nI F) (nI R) z (nI R) (nI s) f_parts f_arrays f_height f_loops a_rankOf a_rows a_columns a_formatOf a_lines a_lineAt a_lineBegin a_placeAt a_numberAt a_kind a_number a_partA a_partB a_indexA a_indexB a_stack a_inside pl a_loopIndex a_spanOf a_lineIndex a_placeIndex a_atLine a_atPlace a_support a_value a_now a_left := by
      intro z ez
      subst ez
      unfold wX_make_98
      refine pk_eq m 0 (fun a => k107 1 ?_) (fun a => k107 (nI m) ?_)
      · have e : M = 1 := by omega
        rw [e]
        rfl
      · have e : M = m := by omega
        rw [e]
    dsimp only
    refine pk_eq n 0 (fun a => k98 1 ?_) (fun a => k98 (nI n) ?_)
    · have e : N = 1 := by omega
      rw [e]
      rfl
    · have e : N = n := by omega
      rw [e]
  unfold wX_make_40 wX_make_41
  refine pk_eq n 0 (fun a => k 0 ?_) (fun a => pk_eq m 0 (fun b => k 1 ?_) (fun b => k 2 ?_))
  · have e : R = 0 := by omega
    rw [e]
    rfl
  · have e : R = 1 := by omega
    rw [e]
    rfl
  · have e : R = 2 := by omega
    rw [e]
    rfl
end
section
variable {g_parts g_arrays g_depth : Int32} {b_ranks b_rows b_widths b_formats b_cells b_kinds b_numbers b_sizes b_values b_firsts b_seconds b_at b_spans : Nat → Int32}
theorem sf_ymk40 {post : Int32 → SY → Prop} {v1 v2 v3 v4 : Int32} (h : post (-1000000001) (g_parts, g_arrays, g_depth, b_ranks, b_rows, b_widths, b_formats, b_cells, b_kinds, b_numbers, b_sizes, b_values, b_firsts, b_seconds, b_at, b_spans)) : wY_make_40 post v1 v2 v3 v4 g_parts g_arrays g_depth b_ranks b_rows b_widths b_formats b_cells b_kinds b_numbers b_sizes b_values b_firsts b_seconds b_at b_spans := by
  have k : ∀ z, wY_make_60 post v1 v2 v3 v4 0 z g_parts g_arrays g_depth b_ranks b_rows b_widths b_formats b_cells b_kinds b_numbers b_sizes b_values b_firsts b_seconds b_at b_spans := fun z => br_t rfl h
  unfold wY_make_40 wY_make_41
  exact br_c (fun _ => k 0) (fun _ => br_c (fun _ => k 1) (fun _ => k 2))
theorem sf_ymk36b {post : Int32 → SY → Prop} {v1 v4 : Int32} {n m R N : Nat} (hn : n ≤ 6) (hm : m ≤ 6) (h1 : (n = 0 ∧ R = 0 ∧ N = 1) ∨ (n ≠ 0 ∧ m = 0 ∧ R = 1 ∧ N = n) ∨ (n ≠ 0 ∧ m ≠ 0 ∧ R = 2 ∧ N = n))
    (hv : v4 < 0 ∨ nI (sf_most R) < v4) (h : post (-1000000001) (g_parts, g_arrays, g_depth, b_ranks, b_rows, b_widths, b_formats, b_cells, b_kinds, b_numbers, b_sizes, b_values, b_firsts, b_seconds, b_at, b_spans)) : wY_make_36 post v1 (nI n) (nI m) v4 g_parts g_arrays g_depth b_ranks b_rows b_widths b_formats b_cells b_kinds b_numbers b_sizes b_values b_firsts b_seconds b_at b_spans := by
  have k : ∀ z, z = nI R → wY_make_60 post v1 (nI n) (nI m) v4 1 z g_parts g_arrays g_depth b_ranks b_rows b_widths b_formats b_cells b_kinds b_numbers b_sizes b_values b_firsts b_seconds b_at b_spans := by
    intro z ez
    subst ez
    exact br_f (by decide) (sf_yF1 (by omega) hv (br_t rfl h))
  unfold wY_make_36 wY_make_41
  refine pk_eq n 0 (fun a => k 0 ?_) (fun a => pk_eq m 0 (fun b => k 1 ?_) (fun b => k 2 ?_))
  · have e : R = 0 := by omega
    rw [e]
    rfl
  · have e : R = 1 := by omega
    rw [e]
    rfl
  · have e : R = 2 := by omega
    rw [e]
    rfl
theorem sf_ymk36 {post : Int32 → SY → Prop} {s n m R N M F : Nat} (hs : s < 6) (hn : n ≤ 6) (hm : m ≤ 6) (h1 : (n = 0 ∧ R = 0 ∧ N = 1) ∨ (n ≠ 0 ∧ m = 0 ∧ R = 1 ∧ N = n) ∨ (n ≠ 0 ∧ m ≠ 0 ∧ R = 2 ∧ N = n)) (h2 : (m = 0 ∧ M = 1) ∨ (m ≠ 0 ∧ M = m))
    (hF : F ≤ sf_most R) (h : ∀ ce : Nat → Int32, (∀ k, k < 36 → ce (36 * s + k) = 0) → (∀ i, (i < 36 * s ∨ 36 * s + 36 ≤ i) → ce i = b_cells i) → post (nI R) (g_parts, g_arrays, g_depth, (upd b_ranks s (nI R)), (upd b_rows s (nI N)), (upd b_widths s (nI M)), (upd b_formats s (nI F)), ce, b_kinds, b_numbers, b_sizes, b_values, b_firsts, b_seconds, b_at, b_spans)) :
    wY_make_36 post (nI s) (nI n) (nI m) (nI F) g_parts g_arrays g_depth b_ranks b_rows b_widths b_formats b_cells b_kinds b_numbers b_sizes b_values b_firsts b_seconds b_at b_spans := by
  have k : ∀ z, z = nI R → wY_make_60 post (nI s) (nI n) (nI m) (nI F) 1 z g_parts g_arrays g_depth b_ranks b_rows b_widths b_formats b_cells b_kinds b_numbers b_sizes b_values b_firsts b_seconds b_at b_spans := by
    intro z ez
    subst ez
    exact br_f (by decide) (sf_yF0 (by omega) hF (br_f (by decide) (sf_shape (by omega) hn hm h1 h2 (fun ce a b => h ce a b))))
  unfold wY_make_36 wY_make_41
  refine pk_eq n 0 (fun a => k 0 ?_) (fun a => pk_eq m 0 (fun b => k 1 ?_) (fun b => k 2 ?_))
  · have e : R = 0 := by omega
    rw [e]
    rfl
  · have e : R = 1 := by omega
    rw [e]
    rfl
  · have e : R = 2 := by omega
    rw [e]
    rfl
theorem sf_yml {q : Int32 → SY → Prop} {v1 v4 : Int32} {n m : Nat} (hn : n ≤ 6) (hm : m ≤ 6) (hnm : n = 0 → m = 0) (hq : wY_make_36 q v1 (nI n) (nI m) v4 g_parts g_arrays g_depth b_ranks b_rows b_widths b_formats b_cells b_kinds b_numbers b_sizes b_values b_firsts b_seconds b_at b_spans) : (0 < nI n → wY_make_36 q v1 (nI n) (nI m) v4 g_parts g_arrays g_depth b_ranks b_rows b_widths b_formats b_cells b_kinds b_numbers b_sizes b_values b_firsts b_seconds b_at b_spans) ∧ (¬ 0 < nI n → ((nI m = 0 → wY_make_36 q v1 (nI n) (nI m) v4 g_parts g_arrays g_depth b_ranks b_rows b_widths b_formats b_cells b_kinds b_numbers b_sizes b_values b_firsts b_seconds b_at b_spans) ∧ (¬ nI m = 0 → wY_make_40 q v1 (nI n) (nI m) v4 g_parts g_arrays g_depth b_ranks b_rows b_widths b_formats b_cells b_kinds b_numbers b_sizes b_values b_firsts b_seconds b_at b_spans))) := by
  refine br_c (fun _ => hq) (fun w => br_c (fun _ => hq) (fun w2 => ?_))
  exfalso
  have n0 : n = 0 := by
    rcases Nat.eq_zero_or_pos n with w3 | w3
    · exact w3
    · exact absurd (nI_lt (a := 0) w3 (by omega)) w
  exact w2 (by rw [hnm n0]; rfl)
theorem sf_ymakeb {post : Int32 → SY → Prop} {v4 : Int32} {s n m R N : Nat} (hs : s < 6) (hn : n ≤ 6) (hm : m ≤ 6) (hnm : n = 0 → m = 0) (h1 : (n = 0 ∧ R = 0 ∧ N = 1) ∨ (n ≠ 0 ∧ m = 0 ∧ R = 1 ∧ N = n) ∨ (n ≠ 0 ∧ m ≠ 0 ∧ R = 2 ∧ N = n))
    (hv : v4 < 0 ∨ nI (sf_most R) < v4) (h : post (-1000000001) (g_parts, g_arrays, g_depth, b_ranks, b_rows, b_widths, b_formats, b_cells, b_kinds, b_numbers, b_sizes, b_values, b_firsts, b_seconds, b_at, b_spans)) : wpY_make post (g_parts, g_arrays, g_depth, b_ranks, b_rows, b_widths, b_formats, b_cells, b_kinds, b_numbers, b_sizes, b_values, b_firsts, b_seconds, b_at, b_spans) (nI s) (nI n) (nI m) v4 := by
  unfold wpY_make
  exact sf_yR0 hs (br_f (by decide) (br_f (nI_pos (by omega)) (br_f (nI_nlt (a := 6) (by omega) (by omega)) (br_f (nI_pos (by omega)) (br_f (nI_nlt (a := 6) (by omega) (by omega)) (sf_yml hn hm hnm (sf_ymk36b hn hm h1 hv h)))))))
theorem sf_ymake {post : Int32 → SY → Prop} {s n m R N M F : Nat} (hs : s < 6) (hn : n ≤ 6) (hm : m ≤ 6) (hnm : n = 0 → m = 0) (h1 : (n = 0 ∧ R = 0 ∧ N = 1) ∨ (n ≠ 0 ∧ m = 0 ∧ R = 1 ∧ N = n) ∨ (n ≠ 0 ∧ m ≠ 0 ∧ R = 2 ∧ N = n)) (h2 : (m = 0 ∧ M = 1) ∨ (m ≠ 0 ∧ M = m))
    (hF : F ≤ sf_most R) (h : ∀ ce : Nat → Int32, (∀ k, k < 36 → ce (36 * s + k) = 0) → (∀ i, (i < 36 * s ∨ 36 * s + 36 ≤ i) → ce i = b_cells i) → post (nI R) (g_parts, g_arrays, g_depth, (upd b_ranks s (nI R)), (upd b_rows s (nI N)), (upd b_widths s (nI M)), (upd b_formats s (nI F)), ce, b_kinds, b_numbers, b_sizes, b_values, b_firsts, b_seconds, b_at, b_spans)) :
    wpY_make post (g_parts, g_arrays, g_depth, b_ranks, b_rows, b_widths, b_formats, b_cells, b_kinds, b_numbers, b_sizes, b_values, b_firsts, b_seconds, b_at, b_spans) (nI s) (nI n) (nI m) (nI F) := by
  unfold wpY_make
  exact sf_yR0 hs (br_f (by decide) (br_f (nI_pos (by omega)) (br_f (nI_nlt (a := 6) (by omega) (by omega)) (br_f (nI_pos (by omega)) (br_f (nI_nlt (a := 6) (by omega) (by omega)) (sf_yml hn hm hnm (sf_ymk36 hs hn hm h1 h2 hF h)))))))
end
theorem i_vc_make {k : Nat} {u : SX} {v : SY} (I : i_Rel k u v) (hk : k + 5 ≤ 2560) (v1 : Int32) (v2 : Int32) (v3 : Int32) (v4 : Int32) : wpX_make (fun r u' => wpY_make (fun r' v' => r' = r ∧ i_Rel (k + 5) u' v') v v1 v2 v3 v4) u v1 v2 v3 v4 := by
  refine sf_el (Q := fun u v => wpX_make (fun r u' => wpY_make (fun r' v' => r' = r ∧ i_Rel (k + 5) u' v') v v1 v2 v3 v4) u v1 v2 v3 v4) ?_ I
  clear I u v
  intro P A H kd ar sz bo ia ib f_loops a_rankOf a_rows a_columns a_formatOf a_lines a_lineAt a_lineBegin a_placeAt a_numberAt a_kind a_number a_partA a_partB a_indexA a_indexB a_stack a_inside a_plain a_loopIndex a_spanOf a_lineIndex a_placeIndex a_atLine a_atPlace a_support a_value a_now a_left b_ranks b_rows b_widths b_formats b_cells b_kinds b_numbers b_sizes b_values b_firsts b_seconds b_at b_spans I
  unfold wpX_make
  dsimp only
  rcases sf_reg v1 with h | ⟨s, hs, rfl⟩
  · refine sf_bR1 h (br_f (by decide) (sf_mk36 ?_))
    unfold wpY_make
    exact sf_yR1 h (br_t rfl (sf_ymk40 ⟨rfl, sf_in I⟩))
  · refine sf_bR0 hs (br_t rfl (br_c (fun a => sf_mk36 ?_) (fun a => br_c (fun b => sf_mk36 ?_) (fun b => br_c (fun d => sf_mk36 ?_) (fun d => br_c (fun e => sf_mk36 ?_) (fun e => ?_))))))
    · unfold wpY_make
      exact sf_yR0 hs (br_f (by decide) (br_t a (sf_ymk40 ⟨rfl, sf_in I⟩)))
    · unfold wpY_make
      exact sf_yR0 hs (br_f (by decide) (br_f a (br_t b (sf_ymk40 ⟨rfl, sf_in I⟩))))
    · unfold wpY_make
      exact sf_yR0 hs (br_f (by decide) (br_f a (br_f b (br_t d (sf_ymk40 ⟨rfl, sf_in I⟩)))))
    · unfold wpY_make
      exact sf_yR0 hs (br_f (by decide) (br_f a (br_f b (br_f d (br_t e (sf_ymk40 ⟨rfl, sf_in I⟩))))))
    · obtain ⟨n, hn, rfl⟩ := nI_of2 (M := 6) (n := 6) (by decide) a (Int32.not_lt.mp b)
      obtain ⟨m, hm, rfl⟩ := nI_of2 (M := 6) (n := 6) (by decide) d (Int32.not_lt.mp e)
      obtain ⟨R, N, M, h1, h2⟩ : ∃ R N M, ((n = 0 ∧ R = 0 ∧ N = 1) ∨ (n ≠ 0 ∧ m = 0 ∧ R = 1 ∧ N = n) ∨ (n ≠ 0 ∧ m ≠ 0 ∧ R = 2 ∧ N = n)) ∧ ((m = 0 ∧ M = 1) ∨ (m ≠ 0 ∧ M = m)) := by
        by_cases z : n = 0
        · by_cases y : m = 0
          · exact ⟨0, 1, 1, by omega, by omega⟩
          · exact ⟨0, 1, m, by omega, by omega⟩
        · by_cases y : m = 0
          · exact ⟨1, n, 1, by omega, by omega⟩
          · exact ⟨2, n, m, by omega, by omega⟩
      have wrong : n = 0 → 0 < m → wX_make_36 (fun r u' => wpY_make (fun r' v' => r' = r ∧ i_Rel (k + 5) u' v') ((nI P), (nI A), (nI H), b_ranks, b_rows, b_widths, b_formats, b_cells, b_kinds, b_numbers, b_sizes, b_values, b_firsts, b_seconds, b_at, b_spans) (nI s) (nI n) (nI m) v4) (nI s) (nI n) (nI m) v4 (nI P) (nI A) (nI H) f_loops a_rankOf a_rows a_columns a_formatOf a_lines a_lineAt a_lineBegin a_placeAt a_numberAt a_kind a_number a_partA a_partB a_indexA a_indexB a_stack a_inside a_plain a_loopIndex a_spanOf a_lineIndex a_placeIndex a_atLine a_atPlace a_support a_value a_now a_left := by
        intro w w2
        refine sf_mk36 ?_
        unfold wpY_make
        exact sf_yR0 hs (br_f (by decide) (br_f a (br_f b (br_f d (br_f e (br_f (nI_nlt (b := n) (a := 0) (by omega) (by omega)) (br_f (nI_ne0 (by omega) (by omega)) (sf_ymk40 ⟨rfl, sf_in I⟩))))))))
      rcases sf_fmt R v4 with hv | ⟨F, hF, rfl⟩
      · exact pk_eq n 0 (fun w => pk_le m 0 (fun w2 => sf_mk40b hn hm h1 hv (sf_ymakeb hs hn hm (by omega) h1 hv ⟨rfl, sf_in I⟩)) (fun w2 => wrong w w2)) (fun w => sf_mk40b hn hm h1 hv (sf_ymakeb hs hn hm (by omega) h1 hv ⟨rfl, sf_in I⟩))
      · have hS : (n = 0 → m = 0) → sf_Shp R N M F := by
          intro hnm
          unfold sf_most at hF
          unfold sf_Shp
          by_cases z : R = 0
          · rw [if_pos z] at hF
            omega
          · rw [if_neg z] at hF
            by_cases y : R = 1
            · rw [if_pos y] at hF
              omega
            · rw [if_neg y] at hF
              omega
        have key : (n = 0 → m = 0) → wX_make_40 (fun r u' => wpY_make (fun r' v' => r' = r ∧ i_Rel (k + 5) u' v') ((nI P), (nI A), (nI H), b_ranks, b_rows, b_widths, b_formats, b_cells, b_kinds, b_numbers, b_sizes, b_values, b_firsts, b_seconds, b_at, b_spans) (nI s) (nI n) (nI m) (nI F)) (nI s) (nI n) (nI m) (nI F) (nI P) (nI A) (nI H) f_loops a_rankOf a_rows a_columns a_formatOf a_lines a_lineAt a_lineBegin a_placeAt a_numberAt a_kind a_number a_partA a_partB a_indexA a_indexB a_stack a_inside a_plain a_loopIndex a_spanOf a_lineIndex a_placeIndex a_atLine a_atPlace a_support a_value a_now a_left := by
          intro hnm
          refine sf_mk40 hs hn hm h1 h2 (hS hnm) (fun qk qr qc qf ql qa qb qp qn pl FR X => sf_ymake hs hn hm hnm h1 h2 hF (fun ce c1 c2 => ⟨rfl, sf_in (sf_Rl_s hs I FR (fun t ht hne => ⟨pk_un hne, pk_un hne, pk_un hne, pk_un hne, fun y hy => c2 _ (by omega)⟩) ⟨R, N, M, F, ?_, ⟨pk_us, pk_us, pk_us, pk_us, hS hnm⟩, ?_⟩)⟩))
          · exact sf_XS_tr X (sf_EQ_rf _ _ _ _ _ _ _ _ _ _) c1
          · exact fun i j hi hj _ => c1 _ (by omega)
        exact pk_eq n 0 (fun w => pk_le m 0 (fun w2 => key (by omega)) (fun w2 => wrong w w2)) (fun w => key (by omega))
end
section
theorem sf_r6 {k : Nat} (h : k < 2 ^ 31) : nI k - nI k / 6 * 6 = nI (k % 6) := pk_rem (d := 6) h (by omega) (by omega)
theorem sf_d6 {k : Nat} (h : k < 2 ^ 31) : nI k / 6 = nI (k / 6) := pk_div (d := 6) h (by omega) (by omega)
def sf_fx (F : Nat) : Nat := if 4 ≤ F then F - 4 else F + 4
theorem sf_f4x {F : Nat} (h : F < 8) : nI F ^^^ 4 = nI (sf_fx F) := sf_f4 F h
theorem sf_fxs (F : Nat) : (4 ≤ F ∧ sf_fx F = F - 4) ∨ (F < 4 ∧ sf_fx F = F + 4) := by
  unfold sf_fx
  by_cases h : 4 ≤ F
  · rw [if_pos h]
    exact Or.inl ⟨h, rfl⟩
  · rw [if_neg h]
    exact Or.inr ⟨by omega, rfl⟩
theorem sf_XS_turn {s N M F : Nat} {qk qr qc qf ql qa qb qp qn c c' : Nat → Int32} (X : sf_XS s qk qr qc qf ql qa qb qp qn 2 N M F c) (hc : ∀ i j, i < 6 → j < 6 → c' (6 * j + i) = c (6 * i + j)) :
    sf_XS s qk (upd qr s (nI M)) (upd qc s (nI N)) (upd qf s (nI (sf_fx F))) ql qa qb qp qn 2 M N (sf_fx F) c' := by
  obtain ⟨⟨e1, e2, e3, e4, hS⟩, P⟩ := X
  have hfx := sf_fxs F
  have hS' : sf_Shp 2 M N (sf_fx F) := by
    unfold sf_Shp at hS ⊢
    omega
  have hb7 := sf_shb hS
  have d := sf_dims hS
  have d' := sf_dims hS'
  have db := sf_dimb hS
  have eC : sf_LC 2 M N (sf_fx F) = sf_LC 2 N M F := by omega
  have eW : sf_LL 2 M N (sf_fx F) = sf_LL 2 N M F := by omega
  have eg : ∀ l p, l < sf_LC 2 N M F → p < sf_LL 2 N M F → c' (sf_ix 2 (sf_fx F) l p) = c (sf_ix 2 F l p) := by
    intro l p hl hp
    have i1 := sf_ixs 2 F l p
    have i2 := sf_ixs 2 (sf_fx F) l p
    by_cases z : 4 ≤ F
    · rw [show sf_ix 2 (sf_fx F) l p = 6 * l + p by omega, show sf_ix 2 F l p = 6 * p + l by omega]
      exact hc p l (by omega) (by omega)
    · rw [show sf_ix 2 (sf_fx F) l p = 6 * p + l by omega, show sf_ix 2 F l p = 6 * l + p by omega]
      exact hc l p (by omega) (by omega)
  have esl : sf_sl 2 (sf_fx F) = sf_sl 2 F := decide_eq_decide.mpr (by have := sf_shb hS; omega)
  have esp : sf_sp 2 (sf_fx F) = sf_sp 2 F := decide_eq_decide.mpr (by have := sf_shb hS; omega)
  refine ⟨⟨e1, pk_us, pk_us, pk_us, hS'⟩, ?_⟩
  rw [eC, eW]
  refine sf_PK_tr P db.2.1 db.2.2.2 (sf_E5_rf _ _ _ _ _ _) (fun l hl => ?_) (fun l p hl hp => ?_) eg
  · unfold sf_kl
    rw [eW, esl, sf_any_congr _ (fun p hp => eg l p hl hp)]
  · unfold sf_kp
    rw [esp, eg l p hl hp]
section
variable {g_parts g_arrays g_depth : Int32} {b_ranks b_rows b_widths b_formats b_cells b_kinds b_numbers b_sizes b_values b_firsts b_seconds b_at b_spans : Nat → Int32}
theorem sf_yt_l {post : Int32 → SY → Prop} {s : Nat} {oc : Nat → Int32} (hs : s < 6) (h : ∀ ce : Nat → Int32, (∀ k, k < 36 → ce (36 * s + (6 * (k % 6) + k / 6)) = oc (432 + k)) → (∀ i, (i < 36 * s ∨ 36 * s + 36 ≤ i) → ce i = oc i) → post (b_rows s) (g_parts, g_arrays, g_depth, b_ranks, b_rows, b_widths, b_formats, ce, b_kinds, b_numbers, b_sizes, b_values, b_firsts, b_seconds, b_at, b_spans)) :
    ∀ (d k : Nat) (ce : Nat → Int32), k + d = 36 → (∀ j, j < k → ce (36 * s + (6 * (j % 6) + j / 6)) = oc (432 + j)) → (∀ i, (i < 36 * s ∨ 36 * s + 36 ≤ i) → ce i = oc i) → wY_turn_97 post (nI s) g_parts g_arrays g_depth (d + 1) (nI k) b_ranks b_rows b_widths b_formats ce b_kinds b_numbers b_sizes b_values b_firsts b_seconds b_at b_spans := by
  have hc : (nI s).toNatClampNeg = s := nI_clamp (by omega)
  have hin : vp_in (nI s) 13 := vp_in_nI (by omega) (by omega)
  intro d
  induction d with
  | zero =>
    intro k ce hk h1 h2
    have e : k = 36 := by omega
    subst e
    refine br_t (nI_le (a := 36) (b := 36) (by omega) (by omega)) (And.intro hin ?_)
    rw [hc]
    exact h ce h1 h2
  | succ d ih =>
    intro k ce hk h1 h2
    have ea : (432 : Int32) + nI k = nI (432 + k) := nI_add 432 k
    have eb : (36 : Int32) * nI s + 6 * (nI k - nI k / 6 * 6) + nI k / 6 = nI (36 * s + (6 * (k % 6) + k / 6)) := by
      rw [sf_r6 (by omega), sf_d6 (by omega), sf_366]
    refine br_f (nI_ge (a := k) (b := 36) (by omega) (by omega)) (And.intro (by decide) (And.intro (by decide) (And.intro (by rw [ea]; exact vp_in_nI (by omega) (by omega)) (And.intro (by rw [eb]; exact vp_in_nI (by omega) (by omega)) (nm_r (e' := upd ce (36 * s + (6 * (k % 6) + k / 6)) (oc (432 + k))) (by rw [ea, eb, nI_clamp (by omega), nI_clamp (by omega), h2 (432 + k) (by omega)]) (nm_r (nI_1 k) (ih (k + 1) _ (by omega) (fun j hj => ?_) (fun i hi => ?_))))))))
    · by_cases z : j = k
      · rw [z]
        exact pk_us
      · rw [pk_un (by omega)]
        exact h1 j (by omega)
    · rw [pk_un (by omega)]
      exact h2 i hi
end
theorem i_vc_turn {k : Nat} {u : SX} {v : SY} (I : i_Rel k u v) (hk : k + 5 ≤ 2560) (v1 : Int32) : wpX_turn (fun r u' => wpY_turn (fun r' v' => r' = r ∧ i_Rel (k + 5) u' v') v v1) u v1 := by
  refine sf_el (Q := fun u v => wpX_turn (fun r u' => wpY_turn (fun r' v' => r' = r ∧ i_Rel (k + 5) u' v') v v1) u v1) ?_ I
  clear I u v
  intro P A H kd ar sz bo ia ib f_loops a_rankOf a_rows a_columns a_formatOf a_lines a_lineAt a_lineBegin a_placeAt a_numberAt a_kind a_number a_partA a_partB a_indexA a_indexB a_stack a_inside a_plain a_loopIndex a_spanOf a_lineIndex a_placeIndex a_atLine a_atPlace a_support a_value a_now a_left b_ranks b_rows b_widths b_formats b_cells b_kinds b_numbers b_sizes b_values b_firsts b_seconds b_at b_spans I
  unfold wpX_turn wpY_turn
  dsimp only
  rcases sf_reg v1 with h | ⟨s, hs, rfl⟩
  · exact sf_bR1 h (br_f (by decide) (sf_yR1 h (br_t rfl ⟨rfl, sf_in I⟩)))
  · obtain ⟨R, N, M, F, X, HY, Z⟩ := I.1 s hs
    have hb := sf_shb HY.2.2.2.2
    have hc : (nI s).toNatClampNeg = s := nI_clamp (by omega)
    have hin : vp_in (nI s) 13 := vp_in_nI (by omega) (by omega)
    rw [hc, X.1.1, HY.1]
    refine sf_bR0 hs (br_t rfl (And.intro hin (pk_eq R 2 (fun a => ?_) (fun a => ?_))))
    · subst a
      rw [X.1.2.1, X.1.2.2.1, X.1.2.2.2.1, sf_f4x (by omega)]
      refine ⟨hin, nm_e ⟨hin, hin, nm_e ⟨hin, nm_e ⟨hin, hin, nm_e ⟨hin, ?_⟩⟩⟩⟩⟩
      refine sf_yR0 hs (br_f (by decide) (And.intro hin (br_t (by decide) (sf_ycopy (t := 12) (by omega) (by omega) (by omega) (fun ce c1 c2 => ?_)))))
      have f12 : upd b_formats 12 (b_formats s) 12 = nI F := pk_us.trans HY.2.2.2.1
      have w12 : upd b_widths 12 (b_widths s) 12 = nI M := pk_us.trans HY.2.2.1
      have r12 : upd (upd b_rows 12 (b_rows s)) s (nI M) 12 = nI N := (pk_un (by omega)).trans (pk_us.trans HY.2.1)
      dsimp only
      rw [f12, w12]
      refine ⟨hin, nm_e ⟨hin, ?_⟩⟩
      rw [r12]
      refine nm_e ?_
      have key : ∀ ce' : Nat → Int32, (∀ k, k < 36 → ce' (36 * s + (6 * (k % 6) + k / 6)) = ce (432 + k)) → (∀ i, (i < 36 * s ∨ 36 * s + 36 ≤ i) → ce' i = ce i) → ∀ yf : Nat → Int32, yf s = nI (sf_fx F) → (∀ t, t < 12 → t ≠ s → yf t = b_formats t) →
          sf_Rl P A H kd ar sz bo ia ib a_rankOf (upd a_rows s (nI M)) (upd a_columns s (nI N)) (upd a_formatOf s (nI (sf_fx F))) a_lines a_lineAt a_lineBegin a_placeAt a_numberAt a_kind a_number a_partA a_partB a_indexA a_indexB a_stack (upd b_ranks 12 (b_ranks s)) (upd (upd b_rows 12 (b_rows s)) s (nI M)) (upd (upd b_widths 12 (b_widths s)) s (nI N)) yf ce' b_kinds b_numbers b_sizes b_firsts b_seconds := by
        intro ce' d1 d2 yf y1 y2
        have ec : ∀ i j, i < 6 → j < 6 → ce' (36 * s + (6 * j + i)) = b_cells (36 * s + (6 * i + j)) := by
          intro i j hi hj
          have a1 := d1 (6 * i + j) (by omega)
          rw [show (6 * i + j) % 6 = j by omega, show (6 * i + j) / 6 = i by omega] at a1
          rw [a1]
          exact c1 _ (by omega)
        have X2 := sf_XS_turn (c' := fun k => ce' (36 * s + k)) X ec
        refine sf_Rl_s hs I (fun t ht hne => ⟨rfl, pk_un hne, pk_un hne, pk_un hne, sf_E5_rf _ _ _ _ _ _⟩) (fun t ht hne => ⟨pk_un (by omega), (pk_un hne).trans (pk_un (by omega)), (pk_un hne).trans (pk_un (by omega)), y2 t ht hne, fun y hy => ?_⟩) ⟨2, M, N, sf_fx F, X2, ⟨(pk_un (by omega)).trans HY.1, pk_us, pk_us, y1, X2.1.2.2.2.2⟩, ?_⟩
        · rw [d2 _ (by omega)]
          exact c2 _ (by omega)
        · intro i j hi hj hn
          dsimp only
          rw [ec j i hj hi]
          exact Z j i hj hi (fun w => hn ⟨w.2, w.1⟩)
      have er : upd a_rows s (nI M) s = nI M := pk_us
      have er2 : upd (upd b_rows 12 (b_rows s)) s (nI M) s = nI M := pk_us
      refine pk_le 4 F (fun b => ?_) (fun b => ?_)
      · have ef : nI F - 4 = nI (sf_fx F) := by
          have := sf_fxs F
          rw [show (4 : Int32) = nI 4 from rfl, pk_sub b]
          exact congrArg nI (by omega)
        rw [ef]
        exact ⟨hin, nm_e ⟨_, sf_yt_l hs (fun ce' d1 d2 => ⟨er2.trans er.symm, sf_in (key ce' d1 d2 _ pk_us (fun t ht hne => (pk_un hne).trans (pk_un (by omega))))⟩) 36 0 _ rfl (fun j hj => absurd hj (Nat.not_lt_zero j)) (fun _ _ => rfl)⟩⟩
      · have ef : nI F + 4 = nI (sf_fx F) := by
          have := sf_fxs F
          rw [show (4 : Int32) = nI 4 from rfl, nI_add]
          exact congrArg nI (by omega)
        rw [ef]
        exact ⟨hin, nm_e ⟨_, sf_yt_l hs (fun ce' d1 d2 => ⟨er2.trans er.symm, sf_in (key ce' d1 d2 _ pk_us (fun t ht hne => (pk_un hne).trans (pk_un (by omega))))⟩) 36 0 _ rfl (fun j hj => absurd hj (Nat.not_lt_zero j)) (fun _ _ => rfl)⟩⟩
    · exact sf_yR0 hs (br_f (by decide) (And.intro hin (br_f (nI_ge (b := 2) (by omega) (by omega)) ⟨rfl, sf_in I⟩)))
/-! same -/
section
variable {f_parts f_arrays f_height f_loops : Int32} {a_rankOf a_rows a_columns a_formatOf a_lines a_lineAt a_lineBegin a_placeAt a_numberAt a_kind a_number a_partA a_partB a_indexA a_indexB a_stack a_inside a_plain a_loopIndex a_spanOf a_lineIndex a_placeIndex a_atLine a_atPlace a_support a_value a_now a_left : Nat → Int32}
theorem sf_xs82 {post : Int32 → Prop} {J68 : Int32 → Int32 → Prop} {s t i R N M F R' F' : Nat} {c c' : Nat → Int32} (hs : s < 6) (ht : t < 6) (X : sf_XS s a_rankOf a_rows a_columns a_formatOf a_lines a_lineAt a_lineBegin a_placeAt a_numberAt R N M F c) (X' : sf_XS t a_rankOf a_rows a_columns a_formatOf a_lines a_lineAt a_lineBegin a_placeAt a_numberAt R' N M F' c') (hi : i < N) :
    ∀ d j (b : Bool), j + d = M → (∀ b' : Bool, (b' = true ↔ (b = true ∧ ∀ j', j ≤ j' → j' < M → c (6 * i + j') = c' (6 * i + j'))) → J68 (sf_b b') (nI (i + 1))) → wX_same_82 post J68 (nI s) (nI t) (nI i) f_parts f_arrays f_height f_loops a_rankOf a_rows a_columns a_formatOf a_lines a_lineAt a_lineBegin a_placeAt a_numberAt a_kind a_number a_partA a_partB a_indexA a_indexB a_stack a_inside a_plain a_loopIndex a_spanOf a_lineIndex a_placeIndex a_atLine a_atPlace a_support a_value a_now a_left (d + 1) (sf_b b) (nI j) := by
  have hb := sf_shb X.1.2.2.2.2
  have hc : (nI s).toNatClampNeg = s := nI_clamp (by omega)
  have hin : vp_in (nI s) 13 := vp_in_nI (by omega) (by omega)
  have hr : a_columns (nI s).toNatClampNeg = nI M := by
    rw [hc]
    exact X.1.2.2.1
  intro d
  induction d with
  | zero =>
    intro j b hj h
    have e : j = M := by omega
    refine And.intro hin (br_t ?_ (nm_r (nI_1 i) (h b ⟨fun w => ⟨w, fun j' a1 a2 => by omega⟩, fun w => w.1⟩)))
    rw [hr, e]
    exact nI_le (Nat.le_refl _) (by omega)
  | succ d ih =>
    intro j b hj h
    refine And.intro hin (br_f ?_ (sf_get hs X hi (by omega) (sf_get ht X' hi (by omega) ?_)))
    · rw [hr]
      exact nI_ge (by omega) (by omega)
    · have split : ∀ q : Bool, (q = true ↔ (b = true ∧ c (6 * i + j) = c' (6 * i + j))) → wX_same_82 post J68 (nI s) (nI t) (nI i) f_parts f_arrays f_height f_loops a_rankOf a_rows a_columns a_formatOf a_lines a_lineAt a_lineBegin a_placeAt a_numberAt a_kind a_number a_partA a_partB a_indexA a_indexB a_stack a_inside a_plain a_loopIndex a_spanOf a_lineIndex a_placeIndex a_atLine a_atPlace a_support a_value a_now a_left (d + 1) (sf_b q) (nI (j + 1)) := by
        intro q hq
        refine ih (j + 1) q (by omega) (fun b' hb' => h b' ?_)
        rw [hb', hq]
        constructor
        · intro w
          refine ⟨w.1.1, fun j' a1 a2 => ?_⟩
          by_cases z : j' = j
          · rw [z]
            exact w.1.2
          · exact w.2 j' (by omega) a2
        · intro w
          exact ⟨⟨w.1, w.2 j (Nat.le_refl _) (by omega)⟩, fun j' a1 a2 => w.2 j' (by omega) a2⟩
      cases b with
      | false => exact br_t rfl (nm_r (nI_1 j) (split false ⟨fun w => absurd w (by decide), fun w => absurd w.1 (by decide)⟩))
      | true =>
        refine br_f (by decide) (br_c (fun z => nm_r (nI_1 j) ?_) (fun z => nm_r (nI_1 j) ?_))
        · exact split true ⟨fun _ => ⟨rfl, z⟩, fun _ => rfl⟩
        · exact split false ⟨fun w => absurd w (by decide), fun w => absurd w.2 z⟩
theorem sf_xs68 {post : Int32 → Prop} {s t R N M F R' F' : Nat} {c c' : Nat → Int32} (hs : s < 6) (ht : t < 6) (X : sf_XS s a_rankOf a_rows a_columns a_formatOf a_lines a_lineAt a_lineBegin a_placeAt a_numberAt R N M F c) (X' : sf_XS t a_rankOf a_rows a_columns a_formatOf a_lines a_lineAt a_lineBegin a_placeAt a_numberAt R' N M F' c')
    (h1 : (∀ i j, i < N → j < M → c (6 * i + j) = c' (6 * i + j)) → post 1) (h0 : ¬ (∀ i j, i < N → j < M → c (6 * i + j) = c' (6 * i + j)) → post 0) :
    ∀ d i (b : Bool), i + d = N → (b = true ↔ ∀ i' j', i' < i → j' < M → c (6 * i' + j') = c' (6 * i' + j')) → wX_same_68 post (nI s) (nI t) f_parts f_arrays f_height f_loops a_rankOf a_rows a_columns a_formatOf a_lines a_lineAt a_lineBegin a_placeAt a_numberAt a_kind a_number a_partA a_partB a_indexA a_indexB a_stack a_inside a_plain a_loopIndex a_spanOf a_lineIndex a_placeIndex a_atLine a_atPlace a_support a_value a_now a_left (d + 1) (sf_b b) (nI i) := by
  have hb := sf_shb X.1.2.2.2.2
  have hc : (nI s).toNatClampNeg = s := nI_clamp (by omega)
  have hin : vp_in (nI s) 13 := vp_in_nI (by omega) (by omega)
  have hr : a_rows (nI s).toNatClampNeg = nI N := by
    rw [hc]
    exact X.1.2.1
  intro d
  induction d with
  | zero =>
    intro i b hi hq
    have e : i = N := by omega
    subst e
    refine And.intro hin (br_t ?_ (And.intro (sf_b_n b) ?_))
    · rw [hr]
      exact nI_le (Nat.le_refl _) (by omega)
    · cases b with
      | true => exact h1 (hq.mp rfl)
      | false => exact h0 (fun w => absurd (hq.mpr w) (by decide))
  | succ d ih =>
    intro i b hi hq
    refine And.intro hin (br_f ?_ ⟨M + 1, sf_xs82 hs ht X X' (by omega) M 0 b (Nat.zero_add _) (fun b' hb' => ih (i + 1) b' (by omega) ?_)⟩)
    · rw [hr]
      exact nI_ge (by omega) (by omega)
    · rw [hb', hq]
      constructor
      · intro w i' j' a1 a2
        by_cases z : i' = i
        · rw [z]
          exact w.2 j' (Nat.zero_le _) a2
        · exact w.1 i' j' (by omega) a2
      · intro w
        exact ⟨fun i' j' a1 a2 => w i' j' (by omega) a2, fun j' _ a2 => w i j' (by omega) a2⟩
end
section
variable {g_parts g_arrays g_depth : Int32} {b_ranks b_rows b_widths b_formats b_cells b_kinds b_numbers b_sizes b_values b_firsts b_seconds b_at b_spans : Nat → Int32}
theorem sf_ys65 {post : Int32 → Prop} {s t : Nat} (hs : s < 6) (ht : t < 6) (h1 : (∀ k, k < 36 → b_cells (36 * s + k) = b_cells (36 * t + k)) → post 1) (h0 : ¬ (∀ k, k < 36 → b_cells (36 * s + k) = b_cells (36 * t + k)) → post 0) :
    ∀ d k, k + d = 36 → (∀ j, j < k → b_cells (36 * s + j) = b_cells (36 * t + j)) → wY_same_65 post (nI s) (nI t) g_parts g_arrays g_depth b_ranks b_rows b_widths b_formats b_cells b_kinds b_numbers b_sizes b_values b_firsts b_seconds b_at b_spans (d + 1) (nI k) := by
  intro d
  induction d with
  | zero =>
    intro k hk hq
    have e : k = 36 := by omega
    subst e
    exact br_t (nI_le (a := 36) (b := 36) (by omega) (by omega)) (h1 hq)
  | succ d ih =>
    intro k hk hq
    refine br_f (nI_ge (a := k) (b := 36) (by omega) (by omega)) (And.intro (by rw [sf_36]; exact vp_in_nI (by omega) (by omega)) (And.intro (by rw [sf_36]; exact vp_in_nI (by omega) (by omega)) ?_))
    rw [sf_36, sf_36, nI_clamp (by omega), nI_clamp (by omega)]
    refine br_c (fun z => nm_r (nI_1 k) (ih (k + 1) (by omega) (fun j hj => ?_))) (fun z => h0 (fun w => z (w k (by omega))))
    by_cases e : j = k
    · rw [e]
      exact z
    · exact hq j (by omega)
end
theorem i_vc_same {k : Nat} {u : SX} {v : SY} (I : i_Rel k u v) (hk : k + 5 ≤ 2560) (v1 : Int32) (v2 : Int32) : wpX_same (fun r => wpY_same (fun r' => r' = r ∧ i_Rel (k + 5) u v) v v1 v2) u v1 v2 := by
  refine sf_el (Q := fun u v => wpX_same (fun r => wpY_same (fun r' => r' = r ∧ i_Rel (k + 5) u v) v v1 v2) u v1 v2) ?_ I
  clear I u v
  intro P A H kd ar sz bo ia ib f_loops a_rankOf a_rows a_columns a_formatOf a_lines a_lineAt a_lineBegin a_placeAt a_numberAt a_kind a_number a_partA a_partB a_indexA a_indexB a_stack a_inside a_plain a_loopIndex a_spanOf a_lineIndex a_placeIndex a_atLine a_atPlace a_support a_value a_now a_left b_ranks b_rows b_widths b_formats b_cells b_kinds b_numbers b_sizes b_values b_firsts b_seconds b_at b_spans I
  unfold wpX_same wpY_same
  dsimp only
  rcases sf_reg v1 with h | ⟨s, hs, rfl⟩
  · exact sf_bR1 h (br_f (by decide) (sf_yR1 h (br_t rfl ⟨rfl, sf_in I⟩)))
  · rcases sf_reg v2 with h | ⟨t, ht, rfl⟩
    · exact sf_bR0 hs (br_t rfl (sf_bR1 h (br_f (by decide) (sf_yR0 hs (br_f (by decide) (sf_yR1 h (br_t rfl ⟨rfl, sf_in I⟩)))))))
    · obtain ⟨R, N, M, F, X, HY, Z⟩ := I.1 s hs
      obtain ⟨R', N', M', F', X', HY', Z'⟩ := I.1 t ht
      have hb := sf_shb HY.2.2.2.2
      have hb' := sf_shb HY'.2.2.2.2
      have hc : (nI s).toNatClampNeg = s := nI_clamp (by omega)
      have hin : vp_in (nI s) 13 := vp_in_nI (by omega) (by omega)
      have hc' : (nI t).toNatClampNeg = t := nI_clamp (by omega)
      have hin' : vp_in (nI t) 13 := vp_in_nI (by omega) (by omega)
      rw [hc, hc', X.1.1, X.1.2.1, X.1.2.2.1, HY.1, HY.2.1, HY.2.2.1, X'.1.1, X'.1.2.1, X'.1.2.2.1, HY'.1, HY'.2.1, HY'.2.2.1]
      refine sf_bR0 hs (br_t rfl (sf_bR0 ht (br_t rfl (And.intro hin (And.intro hin' (br_c (fun a => And.intro hin (And.intro hin' (br_c (fun b => And.intro hin (And.intro hin' (br_c (fun d => ?_) (fun d => ?_)))) (fun b => ?_)))) (fun a => ?_)))))))
      · have e1 : R = R' := (nI_eq (by omega) (by omega)).mp a
        have e2 : N = N' := (nI_eq (by omega) (by omega)).mp b
        have e3 : M = M' := (nI_eq (by omega) (by omega)).mp d
        subst e1 e2 e3
        have iff1 : (∀ i j, i < N → j < M → b_cells (36 * s + (6 * i + j)) = b_cells (36 * t + (6 * i + j))) ↔ ∀ k, k < 36 → b_cells (36 * s + k) = b_cells (36 * t + k) := by
          constructor
          · intro w k hk
            by_cases z : k / 6 < N ∧ k % 6 < M
            · have q := w (k / 6) (k % 6) z.1 z.2
              rw [show 6 * (k / 6) + k % 6 = k by omega] at q
              exact q
            · have q := Z (k / 6) (k % 6) (by omega) (by omega) z
              have q' := Z' (k / 6) (k % 6) (by omega) (by omega) z
              dsimp only at q q'
              rw [show 6 * (k / 6) + k % 6 = k by omega] at q q'
              rw [q, q']
          · intro w i j hi hj
            exact w _ (by omega)
        have yend : ∀ r : Int32, ((∀ k, k < 36 → b_cells (36 * s + k) = b_cells (36 * t + k)) → 1 = r) → (¬ (∀ k, k < 36 → b_cells (36 * s + k) = b_cells (36 * t + k)) → 0 = r) → wY_same_65 (fun r' => r' = r ∧ i_Rel (k + 5) ((nI P), (nI A), (nI H), f_loops, a_rankOf, a_rows, a_columns, a_formatOf, a_lines, a_lineAt, a_lineBegin, a_placeAt, a_numberAt, a_kind, a_number, a_partA, a_partB, a_indexA, a_indexB, a_stack, a_inside, a_plain, a_loopIndex, a_spanOf, a_lineIndex, a_placeIndex, a_atLine, a_atPlace, a_support, a_value, a_now, a_left) ((nI P), (nI A), (nI H), b_ranks, b_rows, b_widths, b_formats, b_cells, b_kinds, b_numbers, b_sizes, b_values, b_firsts, b_seconds, b_at, b_spans)) (nI s) (nI t) (nI P) (nI A) (nI H) b_ranks b_rows b_widths b_formats b_cells b_kinds b_numbers b_sizes b_values b_firsts b_seconds b_at b_spans 37 (nI 0) := fun r y1 y0 =>
          sf_ys65 hs ht (fun w => ⟨y1 w, sf_in I⟩) (fun w => ⟨y0 w, sf_in I⟩) 36 0 rfl (fun j hj => absurd hj (Nat.not_lt_zero j))
        refine ⟨N + 1, sf_xs68 (b := true) hs ht X X' (fun w => ?_) (fun w => ?_) N 0 (Nat.zero_add _) ⟨fun _ i' j' a1 => absurd a1 (Nat.not_lt_zero _), fun _ => rfl⟩⟩
        · exact sf_yR0 hs (br_f (by decide) (sf_yR0 ht (br_f (by decide) (And.intro hin (And.intro hin' (br_t rfl (And.intro hin (And.intro hin' (br_t rfl (And.intro hin (And.intro hin' (br_t rfl ⟨37, yend 1 (fun _ => rfl) (fun z => absurd (iff1.mp w) z)⟩))))))))))))
        · exact sf_yR0 hs (br_f (by decide) (sf_yR0 ht (br_f (by decide) (And.intro hin (And.intro hin' (br_t rfl (And.intro hin (And.intro hin' (br_t rfl (And.intro hin (And.intro hin' (br_t rfl ⟨37, yend 0 (fun z => absurd (iff1.mpr z) w) (fun _ => rfl)⟩))))))))))))
      · exact sf_yR0 hs (br_f (by decide) (sf_yR0 ht (br_f (by decide) (And.intro hin (And.intro hin' (br_t a (And.intro hin (And.intro hin' (br_t b (And.intro hin (And.intro hin' (br_f d ⟨rfl, sf_in I⟩))))))))))))
      · exact sf_yR0 hs (br_f (by decide) (sf_yR0 ht (br_f (by decide) (And.intro hin (And.intro hin' (br_t a (And.intro hin (And.intro hin' (br_f b ⟨rfl, sf_in I⟩)))))))))
      · exact sf_yR0 hs (br_f (by decide) (sf_yR0 ht (br_f (by decide) (And.intro hin (And.intro hin' (br_f a ⟨rfl, sf_in I⟩))))))
end
section
section
variable {f_parts f_arrays f_height f_loops : Int32} {a_rankOf a_rows a_columns a_formatOf a_lines a_lineAt a_lineBegin a_placeAt a_numberAt a_kind a_number a_partA a_partB a_indexA a_indexB a_stack a_inside a_plain a_loopIndex a_spanOf a_lineIndex a_placeIndex a_atLine a_atPlace a_support a_value a_now a_left : Nat → Int32}
theorem sf_xinit_l {post : SX → Prop} (h : ∀ qk qr qc qf ql qa qb qp qn pl, (∀ t, t < 6 → sf_XS t qk qr qc qf ql qa qb qp qn 0 1 1 0 (fun _ => 0)) → post (f_parts, f_arrays, f_height, f_loops, qk, qr, qc, qf, ql, qa, qb, qp, qn, a_kind, a_number, a_partA, a_partB, a_indexA, a_indexB, a_stack, a_inside, pl, a_loopIndex, a_spanOf, a_lineIndex, a_placeIndex, a_atLine, a_atPlace, a_support, a_value, a_now, a_left)) :
    ∀ d r qk qr qc qf ql qa qb qp qn pl, r + d = 6 → (∀ t, t < r → sf_XS t qk qr qc qf ql qa qb qp qn 0 1 1 0 (fun _ => 0)) → wX_init_228 post (d + 1) (nI r) f_parts f_arrays f_height f_loops qk qr qc qf ql qa qb qp qn a_kind a_number a_partA a_partB a_indexA a_indexB a_stack a_inside pl a_loopIndex a_spanOf a_lineIndex a_placeIndex a_atLine a_atPlace a_support a_value a_now a_left := by
  intro d
  induction d with
  | zero =>
    intro r qk qr qc qf ql qa qb qp qn pl hr hX
    have e : r = 6 := by omega
    subst e
    exact br_t (nI_le (a := 6) (b := 6) (by omega) (by omega)) (h _ _ _ _ _ _ _ _ _ _ hX)
  | succ d ih =>
    intro r qk qr qc qf ql qa qb qp qn pl hr hX
    refine br_f (nI_ge (a := r) (b := 6) (by omega) (by omega)) (sf_clear (fun pl' hpl => ?_))
    refine sf_pack (s := r) (R := 0) (N := 1) (M := 1) (F := 0) (c := fun _ => 0) (by omega) (Or.inl ⟨rfl, rfl, rfl, rfl⟩) hpl (fun qk' qr' qc' qf' ql' qa' qb' qp' qn' FR X => nm_r (nI_1 r) (ih (r + 1) _ _ _ _ _ _ _ _ _ _ (by omega) (fun t ht => ?_)))
    by_cases e : t = r
    · rw [e]
      exact X
    · exact sf_XS_tr (hX t (by omega)) (FR t (by omega) e) (fun _ _ => rfl)
end
section
variable {g_parts g_arrays g_depth : Int32} {b_ranks b_rows b_widths b_formats b_cells b_kinds b_numbers b_sizes b_values b_firsts b_seconds b_at b_spans : Nat → Int32}
theorem sf_yinit_l {post : SY → Prop} (h : ∀ yk yr yc yf ye : Nat → Int32, (∀ t, t < 13 → sf_HD t yk yr yc yf 0 1 1 0 ∧ ∀ k, k < 36 → ye (36 * t + k) = 0) → post (g_parts, g_arrays, g_depth, yk, yr, yc, yf, ye, b_kinds, b_numbers, b_sizes, b_values, b_firsts, b_seconds, b_at, b_spans)) :
    ∀ (d a : Nat) (yk yr yc yf ye : Nat → Int32), a + d = 13 → (∀ t, t < a → sf_HD t yk yr yc yf 0 1 1 0 ∧ ∀ k, k < 36 → ye (36 * t + k) = 0) → wY_init_109 post (d + 1) (nI a) g_parts g_arrays g_depth yk yr yc yf ye b_kinds b_numbers b_sizes b_values b_firsts b_seconds b_at b_spans := by
  intro d
  induction d with
  | zero =>
    intro a yk yr yc yf ye ha hX
    have e : a = 13 := by omega
    subst e
    exact br_t (nI_le (a := 13) (b := 13) (by omega) (by omega)) (h _ _ _ _ _ hX)
  | succ d ih =>
    intro a yk yr yc yf ye ha hX
    refine br_f (nI_ge (a := a) (b := 13) (by omega) (by omega)) (sf_shape (s := a) (n := 0) (m := 0) (R := 0) (N := 1) (M := 1) (by omega) (by omega) (by omega) (by omega) (by omega) (fun ce c1 c2 => nm_r (nI_1 a) (ih (a + 1) _ _ _ _ _ (by omega) (fun t ht => ?_))))
    by_cases e : t = a
    · rw [e]
      exact ⟨⟨pk_us, pk_us, pk_us, pk_us, Or.inl ⟨rfl, rfl, rfl, rfl⟩⟩, c1⟩
    · obtain ⟨x, y⟩ := hX t (by omega)
      exact ⟨⟨(pk_un e).trans x.1, (pk_un e).trans x.2.1, (pk_un e).trans x.2.2.1, (pk_un e).trans x.2.2.2.1, x.2.2.2.2⟩, fun k hk => (c2 _ (by omega)).trans (y k hk)⟩
end
theorem i_vc0 : wpX_init (fun u => wpY_init (fun v => i_Rel 0 u v)) := by
  unfold wpX_init
  refine ⟨7, sf_xinit_l (fun qk qr qc qf ql qa qb qp qn pl hX => ?_) 6 0 _ _ _ _ _ _ _ _ _ _ rfl (fun t ht => absurd ht (Nat.not_lt_zero t))⟩
  unfold wpY_init
  refine ⟨14, sf_yinit_l (fun yk yr yc yf ye hY => ?_) 13 0 _ _ _ _ _ rfl (fun t ht => absurd ht (Nat.not_lt_zero t))⟩
  refine sf_in (P := 0) (A := 0) (H := 0) (kd := fun _ => 0) (ar := fun _ => 0) (sz := fun _ => 0) (bo := fun _ => 0) (ia := fun _ => 0) (ib := fun _ => 0) ?_
  refine ⟨fun s hs => ⟨0, 1, 1, 0, sf_XS_tr (hX s hs) (sf_EQ_rf _ _ _ _ _ _ _ _ _ _) (fun k hk => (hY s (by omega)).2 k hk), (hY s (by omega)).1, fun i j hi hj _ => (hY s (by omega)).2 _ (by omega)⟩, fun a ha => absurd ha (Nat.not_lt_zero a), fun a ha => absurd ha (Nat.not_lt_zero a), ⟨by omega, by omega, by omega⟩, fun p hp => absurd hp (Nat.not_lt_zero p), fun p hp => absurd hp (Nat.not_lt_zero p), ⟨rfl, rfl, fun h hh => absurd hh (Nat.not_lt_zero h)⟩, fun a ha => absurd ha (Nat.not_lt_zero a)⟩
/-! parts: pure -/
def sf_un (f : Nat → Nat) (k x : Nat) : Nat → Nat := fun j => if j = k then x else f j
theorem sf_us {f : Nat → Nat} {k x : Nat} : sf_un f k x k = x := if_pos rfl
theorem sf_ue {f : Nat → Nat} {k x j : Nat} (h : j ≠ k) : sf_un f k x j = f j := if_neg h
theorem sf_TR_c {P : Nat} {kd sz kd' sz' : Nat → Nat} (h : sf_TR P kd sz) (e1 : ∀ p, p < P → kd' p = kd p) (e2 : ∀ p, p < P → sz' p = sz p) : sf_TR P kd' sz' := by
  intro p hp
  have a := h p hp
  rw [e1 p hp, e2 p hp, e2 (p - 1) (by omega), e2 (p - 1 - sz (p - 1)) (by omega)]
  exact a
theorem sf_TR_s {P : Nat} {kd sz : Nat → Nat} (h : sf_TR P kd sz) (c : 1 ≤ sz P ∧ sz P ≤ P + 1 ∧ ((kd P ≤ 1 ∧ sz P = 1) ∨ (kd P = 2 ∧ 1 ≤ P ∧ sz P = sz (P - 1) + 1) ∨ (3 ≤ kd P ∧ kd P ≤ 5 ∧ 1 ≤ P ∧ sz (P - 1) + 1 ≤ P ∧ sz P = sz (P - 1) + sz (P - 1 - sz (P - 1)) + 1))) : sf_TR (P + 1) kd sz := by
  intro p hp
  by_cases e : p = P
  · rw [e]
    exact c
  · exact h p (by omega)
section
variable {P A A' : Nat} {kd ar sz kd' ar' sz' : Nat → Nat} {xk xn xA xB yk yn ys : Nat → Int32} {v1 v2 v3 v4 w1 w2 w3 : Int32}
theorem sf_PD_c (h : sf_PD P A kd ar sz xk xn xA xB yk yn ys) (hA : A ≤ A') (e1 : ∀ p, p < P → kd' p = kd p) (e2 : ∀ p, p < P → sz' p = sz p) (e3 : ∀ p, p < P → ar' p = ar p) :
    sf_PD P A' kd' ar' sz' (upd xk P v1) (upd xn P v2) (upd xA P v3) (upd xB P v4) (upd yk P w1) (upd yn P w2) (upd ys P w3) := by
  intro p hp
  obtain ⟨a1, a2, a3, a4⟩ := h p hp
  have hne : p ≠ P := by omega
  rw [e1 p hp, e2 p hp, e2 (p - 1) (by omega), e3 p hp, pk_un hne, pk_un hne, pk_un hne, pk_un hne, pk_un hne, pk_un hne, pk_un hne]
  refine ⟨a1, a2, a3, ?_⟩
  rcases a4 with a4 | ⟨b1, b2, b3⟩ | a4
  · exact Or.inl a4
  · exact Or.inr (Or.inl ⟨b1, by omega, b3⟩)
  · exact Or.inr (Or.inr a4)
theorem sf_PD_s (h : sf_PD P A kd ar sz xk xn xA xB yk yn ys) (c : xk P = nI (kd P) ∧ yk P = nI (kd P) ∧ ys P = nI (sz P) ∧
  ((kd P = 0 ∧ xn P = yn P ∧ xA P = -1 ∧ xB P = -1) ∨ (kd P = 1 ∧ ar P < A ∧ xn P = nI (ar P) ∧ yn P = nI (6 + ar P) ∧ xA P = -1 ∧ xB P = -1) ∨
   (kd P = 2 ∧ xA P = nI (P - 1) ∧ xB P = -1) ∨ (3 ≤ kd P ∧ kd P ≤ 5 ∧ xA P = nI (P - 1 - sz (P - 1)) ∧ xB P = nI (P - 1)))) : sf_PD (P + 1) A kd ar sz xk xn xA xB yk yn ys := by
  intro p hp
  by_cases e : p = P
  · rw [e]
    exact c
  · exact h p (by omega)
end
theorem sf_ST_push {P H : Nat} {sz bo : Nat → Nat} {xs : Nat → Int32} (h : sf_ST P H sz bo xs) : sf_ST (P + 1) (H + 1) (sf_un sz P 1) (sf_un bo (H + 1) (P + 1)) (upd xs H (nI P)) := by
  obtain ⟨h1, h2, h3⟩ := h
  refine ⟨?_, sf_us, fun j hj => ?_⟩
  · rw [sf_ue (by omega)]
    exact h1
  · by_cases e : j = H
    · subst e
      rw [sf_us, sf_ue (by omega), h2, pk_us]
      refine ⟨by omega, by omega, rfl, ?_⟩
      rw [show P + 1 - 1 = P by omega, sf_us]
      omega
    · obtain ⟨a1, a2, a3, a4⟩ := h3 j (by omega)
      rw [sf_ue (k := H + 1) (j := j + 1) (by omega), sf_ue (k := H + 1) (j := j) (by omega), pk_un e, sf_ue (k := P) (by omega)]
      exact ⟨a1, by omega, a3, a4⟩
theorem sf_ST_neg {P H : Nat} {sz bo : Nat → Nat} {xs : Nat → Int32} (hH : 0 < H) (h : sf_ST P H sz bo xs) : 0 < P ∧ xs (H - 1) = nI (P - 1) ∧ sz (P - 1) + 1 ≤ P + 1 ∧ sf_ST (P + 1) H (sf_un sz P (sz (P - 1) + 1)) (sf_un bo H (P + 1)) (upd xs (H - 1) (nI P)) := by
  obtain ⟨h1, h2, h3⟩ := h
  obtain ⟨G, rfl⟩ : ∃ G, H = G + 1 := ⟨H - 1, by omega⟩
  obtain ⟨b1, b2, b3, b4⟩ := h3 G (by omega)
  rw [h2] at b1 b3 b4
  refine ⟨by omega, b3, by omega, ?_, sf_us, fun j hj => ?_⟩
  · rw [sf_ue (by omega)]
    exact h1
  · rw [show G + 1 - 1 = G by omega]
    by_cases e : j = G
    · subst e
      rw [sf_us, sf_ue (by omega), pk_us, show P + 1 - 1 = P by omega, sf_us]
      exact ⟨by omega, by omega, rfl, by omega⟩
    · obtain ⟨a1, a2, a3, a4⟩ := h3 j (by omega)
      rw [sf_ue (k := G + 1) (j := j + 1) (by omega), sf_ue (k := G + 1) (j := j) (by omega), pk_un e, sf_ue (k := P) (by omega)]
      exact ⟨a1, by omega, a3, a4⟩
theorem sf_ST_join {P H : Nat} {sz bo : Nat → Nat} {xs : Nat → Int32} (hH : 2 ≤ H) (h : sf_ST P H sz bo xs) : 0 < P ∧ sz (P - 1) + 1 ≤ P ∧ sz (P - 1) + sz (P - 1 - sz (P - 1)) + 1 ≤ P + 1 ∧ xs (H - 1) = nI (P - 1) ∧ xs (H - 2) = nI (P - 1 - sz (P - 1)) ∧
    sf_ST (P + 1) (H - 1) (sf_un sz P (sz (P - 1) + sz (P - 1 - sz (P - 1)) + 1)) (sf_un bo (H - 1) (P + 1)) (upd xs (H - 2) (nI P)) := by
  obtain ⟨h1, h2, h3⟩ := h
  obtain ⟨G, rfl⟩ : ∃ G, H = G + 2 := ⟨H - 2, by omega⟩
  obtain ⟨b1, b2, b3, b4⟩ := h3 (G + 1) (by omega)
  obtain ⟨d1, d2, d3, d4⟩ := h3 G (by omega)
  rw [h2] at b1 b3 b4
  have e0 : P - 1 - sz (P - 1) = bo (G + 1) - 1 := by omega
  rw [e0, show G + 2 - 1 = G + 1 by omega, show G + 2 - 2 = G by omega]
  refine ⟨by omega, by omega, by omega, b3, d3, ?_, sf_us, fun j hj => ?_⟩
  · rw [sf_ue (by omega)]
    exact h1
  · by_cases e : j = G
    · subst e
      rw [sf_us, sf_ue (by omega), pk_us, show P + 1 - 1 = P by omega, sf_us]
      exact ⟨by omega, by omega, rfl, by omega⟩
    · obtain ⟨a1, a2, a3, a4⟩ := h3 j (by omega)
      rw [sf_ue (k := G + 1) (j := j + 1) (by omega), sf_ue (k := G + 1) (j := j) (by omega), pk_un e, sf_ue (k := P) (by omega)]
      exact ⟨a1, by omega, a3, a4⟩
/-! parts: walks -/
section
variable {f_parts f_arrays f_height f_loops : Int32} {a_rankOf a_rows a_columns a_formatOf a_lines a_lineAt a_lineBegin a_placeAt a_numberAt a_kind a_number a_partA a_partB a_indexA a_indexB a_stack a_inside a_plain a_loopIndex a_spanOf a_lineIndex a_placeIndex a_atLine a_atPlace a_support a_value a_now a_left : Nat → Int32}
theorem sf_part {post : Int32 → SX → Prop} {P : Nat} {v1 v2 v3 v4 : Int32} (hP : P < 20) (h : post (nI P) ((nI (P + 1)), f_arrays, f_height, f_loops, a_rankOf, a_rows, a_columns, a_formatOf, a_lines, a_lineAt, a_lineBegin, a_placeAt, a_numberAt, (upd a_kind P v1), (upd a_number P v2), (upd a_partA P v3), (upd a_partB P v4), a_indexA, a_indexB, a_stack, a_inside, a_plain, a_loopIndex, a_spanOf, a_lineIndex, a_placeIndex, a_atLine, a_atPlace, a_support, a_value, a_now, a_left)) : wpX_part post ((nI P), f_arrays, f_height, f_loops, a_rankOf, a_rows, a_columns, a_formatOf, a_lines, a_lineAt, a_lineBegin, a_placeAt, a_numberAt, a_kind, a_number, a_partA, a_partB, a_indexA, a_indexB, a_stack, a_inside, a_plain, a_loopIndex, a_spanOf, a_lineIndex, a_placeIndex, a_atLine, a_atPlace, a_support, a_value, a_now, a_left) v1 v2 v3 v4 := by
  have hc : (nI P).toNatClampNeg = P := nI_clamp (by omega)
  have hin : vp_in (nI P) 20 := vp_in_nI (by omega) (by omega)
  unfold wpX_part
  dsimp only
  rw [hc]
  refine ⟨hin, nm_e ⟨hin, nm_e ⟨hin, nm_e ⟨hin, nm_e (nm_r (nI_1 P) ?_)⟩⟩⟩⟩
  rw [nI_pred]
  exact h
end
section
variable {g_parts g_arrays g_depth : Int32} {b_ranks b_rows b_widths b_formats b_cells b_kinds b_numbers b_sizes b_values b_firsts b_seconds b_at b_spans : Nat → Int32}
theorem sf_add_e {post : Int32 → SY → Prop} {P H n z t T : Nat} {k m : Int32} (hP : P < 20) (hH : T ≤ H + 1) (hT : T ≤ t) (ht : t < 100) (h : post (nI (H + 1 - T)) ((nI (P + 1)), g_arrays, (nI (H + 1 - T)), b_ranks, b_rows, b_widths, b_formats, b_cells, (upd b_kinds P k), (upd b_numbers P m), (upd b_sizes P (nI z)), b_values, b_firsts, b_seconds, b_at, b_spans)) :
    wY_add_6 post k m (nI T) (nI P) g_arrays (nI H) b_ranks b_rows b_widths b_formats b_cells b_kinds b_numbers b_sizes b_values b_firsts b_seconds b_at b_spans (n + 1) (nI z) (nI t) := by
  have hc : (nI P).toNatClampNeg = P := nI_clamp (by omega)
  have hin : vp_in (nI P) 20 := vp_in_nI (by omega) (by omega)
  refine br_t (nI_le hT (by omega)) ?_
  rw [hc]
  exact ⟨hin, nm_e ⟨hin, nm_e ⟨hin, nm_e (nm_r (nI_1 P) (nm_r (e' := nI (H + 1 - T)) (by rw [nI_1, pk_sub hH]) h))⟩⟩⟩
theorem sf_add_s {post : Int32 → SY → Prop} {P H n z t T w : Nat} {k m : Int32} (hP : P ≤ 20) (hz : 1 ≤ z) (hzP : z ≤ P) (hT : t < T) (hT2 : T < 100) (hw : b_sizes (P - z) = nI w) (h : wY_add_6 post k m (nI T) (nI P) g_arrays (nI H) b_ranks b_rows b_widths b_formats b_cells b_kinds b_numbers b_sizes b_values b_firsts b_seconds b_at b_spans n (nI (z + w)) (nI (t + 1))) :
    wY_add_6 post k m (nI T) (nI P) g_arrays (nI H) b_ranks b_rows b_widths b_formats b_cells b_kinds b_numbers b_sizes b_values b_firsts b_seconds b_at b_spans (n + 1) (nI z) (nI t) := by
  refine br_f (nI_ge hT (by omega)) ?_
  rw [pk_sub hzP, nI_clamp (by omega), hw]
  exact ⟨vp_in_nI (by omega) (by omega), nm_r (nI_add _ _) (nm_r (nI_1 t) h)⟩
theorem sf_add0 {post : Int32 → SY → Prop} {P H : Nat} {k m : Int32} (hP : P < 20) (h : post (nI (H + 1)) ((nI (P + 1)), g_arrays, (nI (H + 1)), b_ranks, b_rows, b_widths, b_formats, b_cells, (upd b_kinds P k), (upd b_numbers P m), (upd b_sizes P (nI 1)), b_values, b_firsts, b_seconds, b_at, b_spans)) : wpY_add post ((nI P), g_arrays, (nI H), b_ranks, b_rows, b_widths, b_formats, b_cells, b_kinds, b_numbers, b_sizes, b_values, b_firsts, b_seconds, b_at, b_spans) k m 0 := by
  unfold wpY_add
  exact ⟨1, sf_add_e (n := 0) (T := 0) (t := 0) (z := 1) hP (by omega) (by omega) (by omega) h⟩
theorem sf_add1 {post : Int32 → SY → Prop} {P H w : Nat} {k m : Int32} (hP : P < 20) (h1 : 1 ≤ P) (hw : b_sizes (P - 1) = nI w) (h : post (nI H) ((nI (P + 1)), g_arrays, (nI H), b_ranks, b_rows, b_widths, b_formats, b_cells, (upd b_kinds P k), (upd b_numbers P m), (upd b_sizes P (nI (1 + w))), b_values, b_firsts, b_seconds, b_at, b_spans)) : wpY_add post ((nI P), g_arrays, (nI H), b_ranks, b_rows, b_widths, b_formats, b_cells, b_kinds, b_numbers, b_sizes, b_values, b_firsts, b_seconds, b_at, b_spans) k m 1 := by
  unfold wpY_add
  exact ⟨2, sf_add_s (n := 1) (T := 1) (t := 0) (z := 1) (by omega) (by omega) h1 (by omega) (by omega) hw (sf_add_e (n := 0) (T := 1) (t := 1) (z := 1 + w) hP (by omega) (by omega) (by omega) h)⟩
theorem sf_add2 {post : Int32 → SY → Prop} {P H w w2 : Nat} {k m : Int32} (hP : P < 20) (h1 : 1 + w ≤ P) (hH : 1 ≤ H) (hw : b_sizes (P - 1) = nI w) (hw2 : b_sizes (P - (1 + w)) = nI w2) (h : post (nI (H - 1)) ((nI (P + 1)), g_arrays, (nI (H - 1)), b_ranks, b_rows, b_widths, b_formats, b_cells, (upd b_kinds P k), (upd b_numbers P m), (upd b_sizes P (nI (1 + w + w2))), b_values, b_firsts, b_seconds, b_at, b_spans)) : wpY_add post ((nI P), g_arrays, (nI H), b_ranks, b_rows, b_widths, b_formats, b_cells, b_kinds, b_numbers, b_sizes, b_values, b_firsts, b_seconds, b_at, b_spans) k m 2 := by
  unfold wpY_add
  refine ⟨3, sf_add_s (n := 2) (T := 2) (t := 0) (z := 1) (by omega) (by omega) (by omega) (by omega) (by omega) hw (sf_add_s (n := 1) (T := 2) (t := 1) (z := 1 + w) (by omega) (by omega) h1 (by omega) (by omega) hw2 (sf_add_e (n := 0) (T := 2) (t := 2) (z := 1 + w + w2) hP (by omega) (by omega) (by omega) ?_))⟩
  rw [show H + 1 - 2 = H - 1 by omega]
  exact h
end
end
section
section
variable {f_parts f_arrays f_height f_loops : Int32} {a_rankOf a_rows a_columns a_formatOf a_lines a_lineAt a_lineBegin a_placeAt a_numberAt a_kind a_number a_partA a_partB a_indexA a_indexB a_stack a_inside a_plain a_loopIndex a_spanOf a_lineIndex a_placeIndex a_atLine a_atPlace a_support a_value a_now a_left : Nat → Int32} {g_parts g_arrays g_depth : Int32} {b_ranks b_rows b_widths b_formats b_cells b_kinds b_numbers b_sizes b_values b_firsts b_seconds b_at b_spans : Nat → Int32} {P A H : Nat} {kd ar sz bo ia ib : Nat → Nat}
theorem sf_Rl_0 (I : sf_Rl P A H kd ar sz bo ia ib a_rankOf a_rows a_columns a_formatOf a_lines a_lineAt a_lineBegin a_placeAt a_numberAt a_kind a_number a_partA a_partB a_indexA a_indexB a_stack b_ranks b_rows b_widths b_formats b_cells b_kinds b_numbers b_sizes b_firsts b_seconds) : sf_Rl 0 0 0 kd ar sz (fun _ => 0) ia ib a_rankOf a_rows a_columns a_formatOf a_lines a_lineAt a_lineBegin a_placeAt a_numberAt a_kind a_number a_partA a_partB a_indexA a_indexB a_stack b_ranks b_rows b_widths b_formats b_cells b_kinds b_numbers b_sizes b_firsts b_seconds :=
  ⟨I.1, fun a ha => absurd ha (Nat.not_lt_zero a), fun a ha => absurd ha (Nat.not_lt_zero a), ⟨by omega, by omega, by omega⟩, fun p hp => absurd hp (Nat.not_lt_zero p), fun p hp => absurd hp (Nat.not_lt_zero p), ⟨rfl, rfl, fun h hh => absurd hh (Nat.not_lt_zero h)⟩, fun a ha => absurd ha (Nat.not_lt_zero a)⟩
theorem sf_Rl_const {v : Int32} (hP : P < 20) (hH : H < 6) (I : sf_Rl P A H kd ar sz bo ia ib a_rankOf a_rows a_columns a_formatOf a_lines a_lineAt a_lineBegin a_placeAt a_numberAt a_kind a_number a_partA a_partB a_indexA a_indexB a_stack b_ranks b_rows b_widths b_formats b_cells b_kinds b_numbers b_sizes b_firsts b_seconds) : sf_Rl (P + 1) A (H + 1) (sf_un kd P 0) ar (sf_un sz P 1) (sf_un bo (H + 1) (P + 1)) ia ib
    a_rankOf a_rows a_columns a_formatOf a_lines a_lineAt a_lineBegin a_placeAt a_numberAt (upd a_kind P 0) (upd a_number P v) (upd a_partA P (-1)) (upd a_partB P (-1)) a_indexA a_indexB (upd a_stack H (nI P)) b_ranks b_rows b_widths b_formats b_cells (upd b_kinds P 0) (upd b_numbers P v) (upd b_sizes P (nI 1)) b_firsts b_seconds := by
  obtain ⟨I1, I2, I3, I4, I5, I6, I7, I8⟩ := I
  refine ⟨I1, I2, I3, ⟨by omega, I4.2.1, by omega⟩, sf_TR_s (sf_TR_c I5 (fun p hp => sf_ue (by omega)) (fun p hp => sf_ue (by omega))) ?_, sf_PD_s (sf_PD_c I6 (Nat.le_refl _) (fun p hp => sf_ue (by omega)) (fun p hp => sf_ue (by omega)) (fun p hp => rfl)) ?_, sf_ST_push I7, fun a ha => ?_⟩
  · rw [sf_us, sf_us]
    exact ⟨by omega, by omega, Or.inl ⟨by omega, rfl⟩⟩
  · rw [sf_us, sf_us, pk_us, pk_us, pk_us, pk_us, pk_us, pk_us, pk_us]
    exact ⟨rfl, rfl, rfl, Or.inl ⟨rfl, rfl, rfl, rfl⟩⟩
  · obtain ⟨p, hp, e1, e2⟩ := I8 a ha
    exact ⟨p, by omega, (sf_ue (by omega)).trans e1, e2⟩
theorem sf_Rl_neg (hP : P < 20) (hH : 0 < H) (I : sf_Rl P A H kd ar sz bo ia ib a_rankOf a_rows a_columns a_formatOf a_lines a_lineAt a_lineBegin a_placeAt a_numberAt a_kind a_number a_partA a_partB a_indexA a_indexB a_stack b_ranks b_rows b_widths b_formats b_cells b_kinds b_numbers b_sizes b_firsts b_seconds) : (1 ≤ P ∧ a_stack (H - 1) = nI (P - 1) ∧ b_sizes (P - 1) = nI (sz (P - 1))) ∧ sf_Rl (P + 1) A H (sf_un kd P 2) ar (sf_un sz P (sz (P - 1) + 1)) (sf_un bo H (P + 1)) ia ib
    a_rankOf a_rows a_columns a_formatOf a_lines a_lineAt a_lineBegin a_placeAt a_numberAt (upd a_kind P 2) (upd a_number P 0) (upd a_partA P (nI (P - 1))) (upd a_partB P (-1)) a_indexA a_indexB (upd a_stack (H - 1) (nI P)) b_ranks b_rows b_widths b_formats b_cells (upd b_kinds P 2) (upd b_numbers P 0) (upd b_sizes P (nI (1 + sz (P - 1)))) b_firsts b_seconds := by
  obtain ⟨I1, I2, I3, I4, I5, I6, I7, I8⟩ := I
  obtain ⟨s1, s2, s3, s4⟩ := sf_ST_neg hH I7
  have z1 := (I5 (P - 1) (by omega)).1
  refine ⟨⟨s1, s2, (I6 (P - 1) (by omega)).2.2.1⟩, I1, I2, I3, ⟨by omega, I4.2.1, by omega⟩, sf_TR_s (sf_TR_c I5 (fun p hp => sf_ue (by omega)) (fun p hp => sf_ue (by omega))) ?_, sf_PD_s (sf_PD_c I6 (Nat.le_refl _) (fun p hp => sf_ue (by omega)) (fun p hp => sf_ue (by omega)) (fun p hp => rfl)) ?_, s4, fun a ha => ?_⟩
  · rw [sf_us, sf_us, sf_ue (j := P - 1) (by omega)]
    exact ⟨by omega, by omega, Or.inr (Or.inl ⟨rfl, by omega, rfl⟩)⟩
  · rw [sf_us, sf_us, pk_us, pk_us, pk_us, pk_us, pk_us, pk_us, pk_us]
    exact ⟨rfl, rfl, congrArg nI (by omega), Or.inr (Or.inr (Or.inl ⟨rfl, rfl, rfl⟩))⟩
  · obtain ⟨p, hp, e1, e2⟩ := I8 a ha
    exact ⟨p, by omega, (sf_ue (by omega)).trans e1, e2⟩
theorem sf_Rl_join {o : Nat} (ho : o ≤ 2) (hP : P < 20) (hH : 2 ≤ H) (I : sf_Rl P A H kd ar sz bo ia ib a_rankOf a_rows a_columns a_formatOf a_lines a_lineAt a_lineBegin a_placeAt a_numberAt a_kind a_number a_partA a_partB a_indexA a_indexB a_stack b_ranks b_rows b_widths b_formats b_cells b_kinds b_numbers b_sizes b_firsts b_seconds) : (1 + sz (P - 1) ≤ P ∧ a_stack (H - 1) = nI (P - 1) ∧ a_stack (H - 2) = nI (P - 1 - sz (P - 1)) ∧ b_sizes (P - 1) = nI (sz (P - 1)) ∧ b_sizes (P - (1 + sz (P - 1))) = nI (sz (P - 1 - sz (P - 1)))) ∧
    sf_Rl (P + 1) A (H - 1) (sf_un kd P (3 + o)) ar (sf_un sz P (sz (P - 1) + sz (P - 1 - sz (P - 1)) + 1)) (sf_un bo (H - 1) (P + 1)) ia ib
    a_rankOf a_rows a_columns a_formatOf a_lines a_lineAt a_lineBegin a_placeAt a_numberAt (upd a_kind P (nI (3 + o))) (upd a_number P 0) (upd a_partA P (nI (P - 1 - sz (P - 1)))) (upd a_partB P (nI (P - 1))) a_indexA a_indexB (upd a_stack (H - 2) (nI P)) b_ranks b_rows b_widths b_formats b_cells (upd b_kinds P (nI (3 + o))) (upd b_numbers P 0) (upd b_sizes P (nI (1 + sz (P - 1) + sz (P - 1 - sz (P - 1))))) b_firsts b_seconds := by
  obtain ⟨I1, I2, I3, I4, I5, I6, I7, I8⟩ := I
  obtain ⟨s1, s2, s3, s4, s5, s6⟩ := sf_ST_join hH I7
  have z1 := (I5 (P - 1) (by omega)).1
  have e9 : P - (1 + sz (P - 1)) = P - 1 - sz (P - 1) := by omega
  rw [e9]
  refine ⟨⟨by omega, s4, s5, (I6 (P - 1) (by omega)).2.2.1, (I6 (P - 1 - sz (P - 1)) (by omega)).2.2.1⟩, I1, I2, I3, ⟨by omega, I4.2.1, by omega⟩, sf_TR_s (sf_TR_c I5 (fun p hp => sf_ue (by omega)) (fun p hp => sf_ue (by omega))) ?_, sf_PD_s (sf_PD_c I6 (Nat.le_refl _) (fun p hp => sf_ue (by omega)) (fun p hp => sf_ue (by omega)) (fun p hp => rfl)) ?_, s6, fun a ha => ?_⟩
  · rw [sf_us, sf_us, sf_ue (j := P - 1) (by omega), sf_ue (j := P - 1 - sz (P - 1)) (by omega)]
    exact ⟨by omega, by omega, Or.inr (Or.inr ⟨by omega, by omega, by omega, by omega, rfl⟩)⟩
  · rw [sf_us, sf_us, sf_ue (j := P - 1) (by omega), pk_us, pk_us, pk_us, pk_us, pk_us, pk_us, pk_us]
    exact ⟨rfl, rfl, congrArg nI (by omega), Or.inr (Or.inr (Or.inr ⟨by omega, by omega, rfl, rfl⟩))⟩
  · obtain ⟨p, hp, e1, e2⟩ := I8 a ha
    exact ⟨p, by omega, (sf_ue (by omega)).trans e1, e2⟩
end
theorem i_vc_scrap {k : Nat} {u : SX} {v : SY} (I : i_Rel k u v) (hk : k + 5 ≤ 2560) : wpX_scrap (fun u' => wpY_scrap (fun v' => i_Rel (k + 5) u' v') v) u := by
  refine sf_el (Q := fun u v => wpX_scrap (fun u' => wpY_scrap (fun v' => i_Rel (k + 5) u' v') v) u) ?_ I
  clear I u v
  intro P A H kd ar sz bo ia ib f_loops a_rankOf a_rows a_columns a_formatOf a_lines a_lineAt a_lineBegin a_placeAt a_numberAt a_kind a_number a_partA a_partB a_indexA a_indexB a_stack a_inside a_plain a_loopIndex a_spanOf a_lineIndex a_placeIndex a_atLine a_atPlace a_support a_value a_now a_left b_ranks b_rows b_widths b_formats b_cells b_kinds b_numbers b_sizes b_values b_firsts b_seconds b_at b_spans I
  unfold wpX_scrap wpY_scrap
  exact sf_in (P := 0) (A := 0) (H := 0) (sf_Rl_0 I)
theorem sf_ne20 {P n : Nat} (h : P < 2 ^ 31) (hn : n < 2 ^ 31) (hne : P ≠ n) : ¬ nI P = nI n := fun w => hne ((nI_eq h hn).mp w)
theorem i_vc_constant {k : Nat} {u : SX} {v : SY} (I : i_Rel k u v) (hk : k + 5 ≤ 2560) (v1 : Int32) : wpX_constant (fun r u' => wpY_constant (fun r' v' => r' = r ∧ i_Rel (k + 5) u' v') v v1) u v1 := by
  refine sf_el (Q := fun u v => wpX_constant (fun r u' => wpY_constant (fun r' v' => r' = r ∧ i_Rel (k + 5) u' v') v v1) u v1) ?_ I
  clear I u v
  intro P A H kd ar sz bo ia ib f_loops a_rankOf a_rows a_columns a_formatOf a_lines a_lineAt a_lineBegin a_placeAt a_numberAt a_kind a_number a_partA a_partB a_indexA a_indexB a_stack a_inside a_plain a_loopIndex a_spanOf a_lineIndex a_placeIndex a_atLine a_atPlace a_support a_value a_now a_left b_ranks b_rows b_widths b_formats b_cells b_kinds b_numbers b_sizes b_values b_firsts b_seconds b_at b_spans I
  have hb := I.2.2.2.1
  unfold wpX_constant wpY_constant
  dsimp only
  refine br_c (fun a => br_t a ⟨rfl, sf_in I⟩) (fun a => br_c (fun b => ?_) (fun b => br_f a (br_f b ⟨rfl, sf_in I⟩)))
  by_cases hP : P = 20
  · have e : nI P = 20 := congrArg nI hP
    exact br_t e (br_f a (br_t b (br_t e ⟨rfl, sf_in I⟩)))
  · have e : ¬ nI P = 20 := sf_ne20 (n := 20) (by omega) (by omega) hP
    by_cases hH : H = 6
    · have e2 : nI H = 6 := congrArg nI hH
      exact br_f e (br_t e2 (br_f a (br_t b (br_f e (br_t e2 ⟨rfl, sf_in I⟩)))))
    · have e2 : ¬ nI H = 6 := sf_ne20 (n := 6) (by omega) (by omega) hH
      refine br_f e (br_f e2 (sf_part (by omega) (And.intro (vp_in_nI (by omega) (by omega)) ?_)))
      rw [nI_clamp (by omega)]
      refine nm_e (nm_r (nI_1 H) (br_f a (br_t b (br_f e (br_f e2 (sf_add0 (by omega) ⟨rfl, ?_⟩))))))
      exact sf_in (sf_Rl_const (by omega) (by omega) I)
theorem i_vc_negate {k : Nat} {u : SX} {v : SY} (I : i_Rel k u v) (hk : k + 5 ≤ 2560) : wpX_negate (fun r u' => wpY_negate (fun r' v' => r' = r ∧ i_Rel (k + 5) u' v') v) u := by
  refine sf_el (Q := fun u v => wpX_negate (fun r u' => wpY_negate (fun r' v' => r' = r ∧ i_Rel (k + 5) u' v') v) u) ?_ I
  clear I u v
  intro P A H kd ar sz bo ia ib f_loops a_rankOf a_rows a_columns a_formatOf a_lines a_lineAt a_lineBegin a_placeAt a_numberAt a_kind a_number a_partA a_partB a_indexA a_indexB a_stack a_inside a_plain a_loopIndex a_spanOf a_lineIndex a_placeIndex a_atLine a_atPlace a_support a_value a_now a_left b_ranks b_rows b_widths b_formats b_cells b_kinds b_numbers b_sizes b_values b_firsts b_seconds b_at b_spans I
  have hb := I.2.2.2.1
  unfold wpX_negate wpY_negate
  dsimp only
  by_cases hP : P = 20
  · have e : nI P = 20 := congrArg nI hP
    exact br_t e (br_t e ⟨rfl, sf_in I⟩)
  · have e : ¬ nI P = 20 := sf_ne20 (n := 20) (by omega) (by omega) hP
    by_cases hH : H = 0
    · have e2 : nI H = 0 := congrArg nI hH
      exact br_f e (br_t e2 (br_f e (br_t e2 ⟨rfl, sf_in I⟩)))
    · have e2 : ¬ nI H = 0 := sf_ne20 (n := 0) (by omega) (by omega) hH
      obtain ⟨⟨r1, r2, r3⟩, r4⟩ := sf_Rl_neg (by omega) (by omega) I
      have e3 : nI H - 1 = nI (H - 1) := by
        rw [show (1 : Int32) = nI 1 from rfl, pk_sub (by omega)]
      have hin : vp_in (nI (H - 1)) 6 := vp_in_nI (by omega) (by omega)
      rw [e3, nI_clamp (by omega), r2]
      refine br_f e (br_f e2 (And.intro hin (sf_part (by omega) (And.intro hin (nm_e (br_f e (br_f e2 (sf_add1 (by omega) r1 r3 ⟨rfl, ?_⟩))))))))
      exact sf_in r4
theorem i_vc_join {k : Nat} {u : SX} {v : SY} (I : i_Rel k u v) (hk : k + 5 ≤ 2560) (v1 : Int32) : wpX_join (fun r u' => wpY_join (fun r' v' => r' = r ∧ i_Rel (k + 5) u' v') v v1) u v1 := by
  refine sf_el (Q := fun u v => wpX_join (fun r u' => wpY_join (fun r' v' => r' = r ∧ i_Rel (k + 5) u' v') v v1) u v1) ?_ I
  clear I u v
  intro P A H kd ar sz bo ia ib f_loops a_rankOf a_rows a_columns a_formatOf a_lines a_lineAt a_lineBegin a_placeAt a_numberAt a_kind a_number a_partA a_partB a_indexA a_indexB a_stack a_inside a_plain a_loopIndex a_spanOf a_lineIndex a_placeIndex a_atLine a_atPlace a_support a_value a_now a_left b_ranks b_rows b_widths b_formats b_cells b_kinds b_numbers b_sizes b_values b_firsts b_seconds b_at b_spans I
  have hb := I.2.2.2.1
  unfold wpX_join wpY_join
  dsimp only
  refine br_c (fun a => br_t a ⟨rfl, sf_in I⟩) (fun a => br_c (fun b => ?_) (fun b => br_f a (br_f b ⟨rfl, sf_in I⟩)))
  obtain ⟨o, ho, rfl⟩ := nI_of2 (M := 2) (n := 2) (by decide) a b
  by_cases hP : P = 20
  · have e : nI P = 20 := congrArg nI hP
    exact br_t e (br_f a (br_t b (br_t e ⟨rfl, sf_in I⟩)))
  · have e : ¬ nI P = 20 := sf_ne20 (n := 20) (by omega) (by omega) hP
    by_cases hH : H < 2
    · have e2 : ¬ 2 ≤ nI H := nI_ge (b := 2) (by omega) (by omega)
      exact br_f e (br_f e2 (br_f a (br_t b (br_f e (br_f e2 ⟨rfl, sf_in I⟩)))))
    · have e2 : 2 ≤ nI H := nI_le (a := 2) (by omega) (by omega)
      obtain ⟨⟨r1, r2, r3, r4, r5⟩, r6⟩ := sf_Rl_join ho (by omega) (by omega) I
      have e3 : nI H - 1 = nI (H - 1) := by
        rw [show (1 : Int32) = nI 1 from rfl, pk_sub (by omega)]
      have e4 : nI (H - 1) - 1 = nI (H - 2) := by
        rw [show (1 : Int32) = nI 1 from rfl, pk_sub (by omega)]
        rfl
      have e5 : (3 : Int32) + nI o = nI (3 + o) := nI_add 3 o
      have hin : vp_in (nI (H - 1)) 6 := vp_in_nI (by omega) (by omega)
      have hin2 : vp_in (nI (H - 2)) 6 := vp_in_nI (by omega) (by omega)
      rw [e5]
      refine br_f e (br_t e2 (nm_r e3 ?_))
      rw [e4, nI_clamp (by omega), nI_clamp (by omega), r2, r3]
      refine And.intro hin2 (And.intro hin (sf_part (by omega) (And.intro hin2 (nm_e (br_f a (br_t b (br_f e (br_t e2 (sf_add2 (by omega) r1 (by omega) r4 r5 ⟨rfl, ?_⟩)))))))))
      exact sf_in r6
end
section
theorem sf_eI_3 : sf_eI 3 = -1 := rfl
theorem sf_eI_l {i : Nat} (h : i < 3) : sf_eI i = nI i := if_pos h
theorem sf_pe {A B : Prop} {i : Nat} (hi : i ≤ 3) (f : i = 3 → A) (g : i < 3 → B) : (sf_eI i = -1 → A) ∧ (¬ sf_eI i = -1 → B) := by
  by_cases e : i = 3
  · subst e
    exact br_t rfl (f rfl)
  · rw [sf_eI_l (by omega)]
    exact br_f (sf_nm1 (by omega)) (g (by omega))
theorem sf_pn {A B : Prop} {i : Nat} (hi : i ≤ 3) (f : i = 3 → A) (g : i < 3 → B) : (sf_eI i < 0 → A) ∧ (¬ sf_eI i < 0 → B) := by
  by_cases e : i = 3
  · subst e
    exact br_t (by decide) (f rfl)
  · rw [sf_eI_l (by omega)]
    exact br_f (nI_pos (by omega)) (g (by omega))
theorem sf_pz {A B : Prop} {i : Nat} (hi : i ≤ 3) (f : i = 3 → A) (g : i < 3 → B) : (0 ≤ sf_eI i → B) ∧ (¬ 0 ≤ sf_eI i → A) := by
  by_cases e : i = 3
  · subst e
    exact br_f (by decide) (f rfl)
  · rw [sf_eI_l (by omega)]
    exact br_t (nI_pos' (by omega)) (g (by omega))
theorem sf_eI_inj {i j : Nat} (hi : i ≤ 3) (hj : j ≤ 3) (h : sf_eI i = sf_eI j) : i = j := by
  by_cases e : i = 3
  · by_cases e2 : j = 3
    · omega
    · rw [e, sf_eI_3, sf_eI_l (i := j) (by omega)] at h
      exact absurd h.symm (sf_nm1 (by omega))
  · by_cases e2 : j = 3
    · rw [e2, sf_eI_3, sf_eI_l (i := i) (by omega)] at h
      exact absurd h (sf_nm1 (by omega))
    · rw [sf_eI_l (i := i) (by omega), sf_eI_l (i := j) (by omega), nI_eq (by omega) (by omega)] at h
      exact h
theorem sf_pq {A B : Prop} {i j : Nat} (hi : i ≤ 3) (hj : j ≤ 3) (f : i = j → A) (g : i ≠ j → B) : (sf_eI i = sf_eI j → A) ∧ (¬ sf_eI i = sf_eI j → B) :=
  ⟨fun e => f (sf_eI_inj hi hj e), fun e => g (fun w => e (congrArg sf_eI w))⟩
theorem sf_idx (v : Int32) : (v < -1 ∨ 2 < v) ∨ ∃ i, i ≤ 3 ∧ v = sf_eI i := by
  have h1 : (-1 : Int32).toInt = -1 := by decide
  have h2 : (2 : Int32).toInt = 2 := by decide
  by_cases a : v < -1
  · exact Or.inl (Or.inl a)
  · by_cases b : 2 < v
    · exact Or.inl (Or.inr b)
    · refine Or.inr ?_
      rw [Int32.lt_iff_toInt_lt, h1] at a
      rw [Int32.lt_iff_toInt_lt, h2] at b
      by_cases z : v.toInt = -1
      · exact ⟨3, by omega, Int32.toInt_inj.mp (by rw [z]; rfl)⟩
      · refine ⟨v.toInt.toNat, by omega, Int32.toInt_inj.mp ?_⟩
        rw [sf_eI_l (by omega), nI_toInt (by omega)]
        omega
section
variable {f_parts f_arrays f_height f_loops : Int32} {a_rankOf a_rows a_columns a_formatOf a_lines a_lineAt a_lineBegin a_placeAt a_numberAt a_kind a_number a_partA a_partB a_indexA a_indexB a_stack a_inside a_plain a_loopIndex a_spanOf a_lineIndex a_placeIndex a_atLine a_atPlace a_support a_value a_now a_left : Nat → Int32}
theorem sf_bI1 {post : Int32 → Prop} {v : Int32} (h : v < -1 ∨ 2 < v) (k : post 1) : wpX_badIndex post (f_parts, f_arrays, f_height, f_loops, a_rankOf, a_rows, a_columns, a_formatOf, a_lines, a_lineAt, a_lineBegin, a_placeAt, a_numberAt, a_kind, a_number, a_partA, a_partB, a_indexA, a_indexB, a_stack, a_inside, a_plain, a_loopIndex, a_spanOf, a_lineIndex, a_placeIndex, a_atLine, a_atPlace, a_support, a_value, a_now, a_left) v := by
  unfold wpX_badIndex
  refine br_c (fun _ => k) (fun a => br_f ?_ k)
  rcases h with h | h
  · exact absurd h a
  · exact Int32.not_le.mpr h
theorem sf_eI_b : ∀ i, i ≤ 3 → ¬ sf_eI i < -1 ∧ sf_eI i ≤ 2 ∧ ¬ 2 < sf_eI i := by decide +kernel
theorem sf_bI0 {post : Int32 → Prop} {i : Nat} (hi : i ≤ 3) (k : post 0) : wpX_badIndex post (f_parts, f_arrays, f_height, f_loops, a_rankOf, a_rows, a_columns, a_formatOf, a_lines, a_lineAt, a_lineBegin, a_placeAt, a_numberAt, a_kind, a_number, a_partA, a_partB, a_indexA, a_indexB, a_stack, a_inside, a_plain, a_loopIndex, a_spanOf, a_lineIndex, a_placeIndex, a_atLine, a_atPlace, a_support, a_value, a_now, a_left) (sf_eI i) := by
  unfold wpX_badIndex
  exact br_f (sf_eI_b i hi).1 (br_t (sf_eI_b i hi).2.1 k)
theorem sf_xarr {post : Int32 → SX → Prop} {s R N M F i j : Nat} (hs : s < 6) (H : sf_HD s a_rankOf a_rows a_columns a_formatOf R N M F) (hi : i ≤ 3) (hj : j ≤ 3)
    (hg : sf_IR R i j → wX_array_103 post (nI s) (sf_eI i) (sf_eI j) f_parts f_arrays f_height f_loops a_rankOf a_rows a_columns a_formatOf a_lines a_lineAt a_lineBegin a_placeAt a_numberAt a_kind a_number a_partA a_partB a_indexA a_indexB a_stack a_inside a_plain a_loopIndex a_spanOf a_lineIndex a_placeIndex a_atLine a_atPlace a_support a_value a_now a_left) (hb : ¬ sf_IR R i j → post (-1000000001) (f_parts, f_arrays, f_height, f_loops, a_rankOf, a_rows, a_columns, a_formatOf, a_lines, a_lineAt, a_lineBegin, a_placeAt, a_numberAt, a_kind, a_number, a_partA, a_partB, a_indexA, a_indexB, a_stack, a_inside, a_plain, a_loopIndex, a_spanOf, a_lineIndex, a_placeIndex, a_atLine, a_atPlace, a_support, a_value, a_now, a_left)) : wpX_array post (f_parts, f_arrays, f_height, f_loops, a_rankOf, a_rows, a_columns, a_formatOf, a_lines, a_lineAt, a_lineBegin, a_placeAt, a_numberAt, a_kind, a_number, a_partA, a_partB, a_indexA, a_indexB, a_stack, a_inside, a_plain, a_loopIndex, a_spanOf, a_lineIndex, a_placeIndex, a_atLine, a_atPlace, a_support, a_value, a_now, a_left) (nI s) (sf_eI i) (sf_eI j) := by
  have hc : (nI s).toNatClampNeg = s := nI_clamp (by omega)
  have hin : vp_in (nI s) 13 := vp_in_nI (by omega) (by omega)
  have hR := sf_shb H.2.2.2.2
  unfold sf_IR at hg hb
  have k41 : ∀ z : Int32, (R = 0 ∧ z = 0) ∨ (1 ≤ R ∧ z = 1) → wX_array_41 post (nI s) (sf_eI i) (sf_eI j) z f_parts f_arrays f_height f_loops a_rankOf a_rows a_columns a_formatOf a_lines a_lineAt a_lineBegin a_placeAt a_numberAt a_kind a_number a_partA a_partB a_indexA a_indexB a_stack a_inside a_plain a_loopIndex a_spanOf a_lineIndex a_placeIndex a_atLine a_atPlace a_support a_value a_now a_left := by
    intro z hz
    unfold wX_array_41
    rw [hc, H.1]
    refine And.intro hin (pk_eq R 2 (fun b => ?_) (fun b => ?_))
    · have ez : z = 1 := by
        rcases hz with hz | hz
        · omega
        · exact hz.2
      subst ez
      exact sf_pe hi (fun c => br_f (by decide) (hb (by omega))) (fun c => br_t rfl (sf_pe hj (fun d => br_f (by decide) (hb (by omega))) (fun d => br_t rfl (br_f (by decide) (sf_pq hi hj (fun w => hb (by omega)) (fun w => hg (by omega)))))))
    · rcases hz with ⟨z1, rfl⟩ | ⟨z1, rfl⟩
      · exact sf_pe hi (fun c => br_t rfl (sf_pe hj (fun d => br_t rfl (br_t rfl (hg (by omega)))) (fun d => br_f (by decide) (hb (by omega))))) (fun c => br_f (by decide) (hb (by omega)))
      · exact sf_pe hi (fun c => br_f (by decide) (hb (by omega))) (fun c => br_t rfl (sf_pe hj (fun d => br_t rfl (br_t rfl (hg (by omega)))) (fun d => br_f (by decide) (hb (by omega)))))
  unfold wpX_array
  dsimp only
  rw [hc, H.1]
  exact sf_bR0 hs (br_t rfl (sf_bI0 hi (br_t rfl (sf_bI0 hj (br_t rfl (And.intro hin (pk_le R 0 (fun a => k41 0 (Or.inl ⟨by omega, rfl⟩)) (fun a => k41 1 (Or.inr ⟨by omega, rfl⟩)))))))))
theorem sf_copy {post : SX → Prop} {s t R N M F : Nat} {c : Nat → Int32} (hs : s < 13) (ht : t < 13) (X : sf_XS s a_rankOf a_rows a_columns a_formatOf a_lines a_lineAt a_lineBegin a_placeAt a_numberAt R N M F c) (Z : sf_Z N M c) (h : ∀ qk qr qc qf ql qa qb qp qn pl, sf_Fr t a_rankOf a_rows a_columns a_formatOf a_lines a_lineAt a_lineBegin a_placeAt a_numberAt qk qr qc qf ql qa qb qp qn → sf_XS t qk qr qc qf ql qa qb qp qn R N M F c → post (f_parts, f_arrays, f_height, f_loops, qk, qr, qc, qf, ql, qa, qb, qp, qn, a_kind, a_number, a_partA, a_partB, a_indexA, a_indexB, a_stack, a_inside, pl, a_loopIndex, a_spanOf, a_lineIndex, a_placeIndex, a_atLine, a_atPlace, a_support, a_value, a_now, a_left)) : wpX_copy post (f_parts, f_arrays, f_height, f_loops, a_rankOf, a_rows, a_columns, a_formatOf, a_lines, a_lineAt, a_lineBegin, a_placeAt, a_numberAt, a_kind, a_number, a_partA, a_partB, a_indexA, a_indexB, a_stack, a_inside, a_plain, a_loopIndex, a_spanOf, a_lineIndex, a_placeIndex, a_atLine, a_atPlace, a_support, a_value, a_now, a_left) (nI s) (nI t) := by
  have hc : (nI s).toNatClampNeg = s := nI_clamp (by omega)
  have hin : vp_in (nI s) 13 := vp_in_nI (by omega) (by omega)
  unfold wpX_copy
  refine sf_unpack hs X Z (fun pl hpl => ?_)
  dsimp only
  rw [hc, X.1.1, X.1.2.1, X.1.2.2.1, X.1.2.2.2.1]
  exact ⟨hin, hin, hin, hin, sf_pack ht X.1.2.2.2.2 hpl (fun qk qr qc qf ql qa qb qp qn FR X2 => h _ _ _ _ _ _ _ _ _ _ FR X2)⟩
end
section
variable {g_parts g_arrays g_depth : Int32} {b_ranks b_rows b_widths b_formats b_cells b_kinds b_numbers b_sizes b_values b_firsts b_seconds b_at b_spans : Nat → Int32}
theorem sf_yI1 {post : Int32 → Prop} {v : Int32} (h : v < -1 ∨ 2 < v) (k : post 0) : wpY_isIndex post (g_parts, g_arrays, g_depth, b_ranks, b_rows, b_widths, b_formats, b_cells, b_kinds, b_numbers, b_sizes, b_values, b_firsts, b_seconds, b_at, b_spans) v := by
  unfold wpY_isIndex
  refine br_c (fun _ => k) (fun a => br_t ?_ k)
  rcases h with h | h
  · exact absurd h a
  · exact h
theorem sf_yI0 {post : Int32 → Prop} {i : Nat} (hi : i ≤ 3) (k : post 1) : wpY_isIndex post (g_parts, g_arrays, g_depth, b_ranks, b_rows, b_widths, b_formats, b_cells, b_kinds, b_numbers, b_sizes, b_values, b_firsts, b_seconds, b_at, b_spans) (sf_eI i) := by
  unfold wpY_isIndex
  exact br_f (sf_eI_b i hi).1 (br_f (sf_eI_b i hi).2.2 k)
theorem sf_yarr {post : Int32 → SY → Prop} {s R N M F i j : Nat} (hs : s < 6) (H : sf_HD s b_ranks b_rows b_widths b_formats R N M F) (hi : i ≤ 3) (hj : j ≤ 3)
    (hg : sf_IR R i j → wY_array_89 post (nI s) (sf_eI i) (sf_eI j) g_parts g_arrays g_depth b_ranks b_rows b_widths b_formats b_cells b_kinds b_numbers b_sizes b_values b_firsts b_seconds b_at b_spans) (hb : ¬ sf_IR R i j → post (-1000000001) (g_parts, g_arrays, g_depth, b_ranks, b_rows, b_widths, b_formats, b_cells, b_kinds, b_numbers, b_sizes, b_values, b_firsts, b_seconds, b_at, b_spans)) : wpY_array post (g_parts, g_arrays, g_depth, b_ranks, b_rows, b_widths, b_formats, b_cells, b_kinds, b_numbers, b_sizes, b_values, b_firsts, b_seconds, b_at, b_spans) (nI s) (sf_eI i) (sf_eI j) := by
  have hc : (nI s).toNatClampNeg = s := nI_clamp (by omega)
  have hin : vp_in (nI s) 13 := vp_in_nI (by omega) (by omega)
  have hR := sf_shb H.2.2.2.2
  unfold sf_IR at hg hb
  have k65 : ∀ z : Int32, (R ≤ 1 ∧ z = 0) ∨ (2 ≤ R ∧ z = 1) → (i = 3 ↔ R = 0) → wY_array_65 post (nI s) (sf_eI i) (sf_eI j) z g_parts g_arrays g_depth b_ranks b_rows b_widths b_formats b_cells b_kinds b_numbers b_sizes b_values b_firsts b_seconds b_at b_spans := by
    intro z hz hir
    rcases hz with ⟨z1, rfl⟩ | ⟨z1, rfl⟩
    · exact sf_pn hj (fun d => br_t rfl (sf_pq hi hj (fun w => sf_pn hi (fun w2 => hg (by omega)) (fun w2 => by omega)) (fun w => hg (by omega)))) (fun d => br_f (by decide) (hb (by omega)))
    · exact sf_pn hj (fun d => br_f (by decide) (hb (by omega))) (fun d => br_t rfl (sf_pq hi hj (fun w => sf_pn hi (fun w2 => by omega) (fun w2 => hb (by omega))) (fun w => hg (by omega))))
  have k38 : ∀ z : Int32, (R = 0 ∧ z = 0) ∨ (1 ≤ R ∧ z = 1) → wY_array_38 post (nI s) (sf_eI i) (sf_eI j) z g_parts g_arrays g_depth b_ranks b_rows b_widths b_formats b_cells b_kinds b_numbers b_sizes b_values b_firsts b_seconds b_at b_spans := by
    intro z hz
    have k47 : (i = 3 ↔ R = 0) → (vp_in (nI s) 13 ∧ (((b_ranks (nI s).toNatClampNeg) ≤ 1 → (wY_array_65 post (nI s) (sf_eI i) (sf_eI j) 0 g_parts g_arrays g_depth b_ranks b_rows b_widths b_formats b_cells b_kinds b_numbers b_sizes b_values b_firsts b_seconds b_at b_spans)) ∧ (¬ (b_ranks (nI s).toNatClampNeg) ≤ 1 → (wY_array_65 post (nI s) (sf_eI i) (sf_eI j) 1 g_parts g_arrays g_depth b_ranks b_rows b_widths b_formats b_cells b_kinds b_numbers b_sizes b_values b_firsts b_seconds b_at b_spans)))) := by
      intro hir
      rw [hc, H.1]
      exact And.intro hin (pk_le R 1 (fun b => k65 0 (Or.inl ⟨b, rfl⟩) hir) (fun b => k65 1 (Or.inr ⟨by omega, rfl⟩) hir))
    rcases hz with ⟨z1, rfl⟩ | ⟨z1, rfl⟩
    · exact sf_pn hi (fun c => br_t rfl (k47 (by omega))) (fun c => br_f (by decide) (hb (by omega)))
    · exact sf_pn hi (fun c => br_f (by decide) (hb (by omega))) (fun c => br_t rfl (k47 (by omega)))
  unfold wpY_array
  dsimp only
  rw [hc, H.1]
  exact sf_yR0 hs (br_f (by decide) (sf_yI0 hi (br_f (by decide) (sf_yI0 hj (br_f (by decide) (And.intro hin (pk_le R 0 (fun a => k38 0 (Or.inl ⟨by omega, rfl⟩)) (fun a => k38 1 (Or.inr ⟨by omega, rfl⟩)))))))))
end
section
variable {f_parts f_arrays f_height f_loops : Int32} {a_rankOf a_rows a_columns a_formatOf a_lines a_lineAt a_lineBegin a_placeAt a_numberAt a_kind a_number a_partA a_partB a_indexA a_indexB a_stack a_inside a_plain a_loopIndex a_spanOf a_lineIndex a_placeIndex a_atLine a_atPlace a_support a_value a_now a_left : Nat → Int32} {g_parts g_arrays g_depth : Int32} {b_ranks b_rows b_widths b_formats b_cells b_kinds b_numbers b_sizes b_values b_firsts b_seconds b_at b_spans : Nat → Int32} {P A H : Nat} {kd ar sz bo ia ib : Nat → Nat} {qk qr qc qf ql qa qb qp qn yk yr yc yf ye : Nat → Int32}
theorem sf_Rl_arr {R N M F i j : Nat} (hP : P < 20) (hA : A < 6) (hH : H < 6) (I : sf_Rl P A H kd ar sz bo ia ib a_rankOf a_rows a_columns a_formatOf a_lines a_lineAt a_lineBegin a_placeAt a_numberAt a_kind a_number a_partA a_partB a_indexA a_indexB a_stack b_ranks b_rows b_widths b_formats b_cells b_kinds b_numbers b_sizes b_firsts b_seconds) (FR : sf_Fr (6 + A) a_rankOf a_rows a_columns a_formatOf a_lines a_lineAt a_lineBegin a_placeAt a_numberAt qk qr qc qf ql qa qb qp qn) (FY : ∀ t, t < 12 → t ≠ 6 + A → sf_YQ t b_ranks b_rows b_widths b_formats b_cells yk yr yc yf ye)
    (X : sf_XS (6 + A) qk qr qc qf ql qa qb qp qn R N M F (fun k => ye (36 * (6 + A) + k))) (HY : sf_HD (6 + A) yk yr yc yf R N M F) (Z : sf_Z N M (fun k => ye (36 * (6 + A) + k))) (D : sf_IR R i j) :
    sf_Rl (P + 1) (A + 1) (H + 1) (sf_un kd P 1) (sf_un ar P A) (sf_un sz P 1) (sf_un bo (H + 1) (P + 1)) (sf_un ia A i) (sf_un ib A j)
    qk qr qc qf ql qa qb qp qn (upd a_kind P 1) (upd a_number P (nI A)) (upd a_partA P (-1)) (upd a_partB P (-1)) (upd a_indexA A (sf_eI i)) (upd a_indexB A (sf_eI j)) (upd a_stack H (nI P)) yk yr yc yf ye (upd b_kinds P 1) (upd b_numbers P (nI (6 + A))) (upd b_sizes P (nI 1)) (upd b_firsts (6 + A) (sf_eI i)) (upd b_seconds (6 + A) (sf_eI j)) := by
  obtain ⟨I1, I2, I3, I4, I5, I6, I7, I8⟩ := I
  refine ⟨fun s hs => sf_SL_tr (I1 s hs) (FR s (by omega) (by omega)) (FY s (by omega) (by omega)), fun a ha => ?_, fun a ha => ?_, ⟨by omega, by omega, by omega⟩, sf_TR_s (sf_TR_c I5 (fun p hp => sf_ue (by omega)) (fun p hp => sf_ue (by omega))) ?_, sf_PD_s (sf_PD_c I6 (Nat.le_succ _) (fun p hp => sf_ue (by omega)) (fun p hp => sf_ue (by omega)) (fun p hp => sf_ue (by omega))) ?_, sf_ST_push I7, fun a ha => ?_⟩
  · by_cases e : a = A
    · subst e
      rw [sf_us, sf_us]
      exact ⟨R, N, M, F, X, HY, Z, D⟩
    · rw [sf_ue e, sf_ue e]
      exact sf_AR_tr (I2 a (by omega)) (FR _ (by omega) (by omega)) (FY _ (by omega) (by omega))
  · by_cases e : a = A
    · subst e
      rw [sf_us, sf_us, pk_us, pk_us, pk_us, pk_us]
      exact ⟨rfl, rfl, rfl, rfl⟩
    · rw [sf_ue e, sf_ue e, pk_un e, pk_un e, pk_un (by omega), pk_un (by omega)]
      exact I3 a (by omega)
  · rw [sf_us, sf_us]
    exact ⟨by omega, by omega, Or.inl ⟨by omega, rfl⟩⟩
  · rw [sf_us, sf_us, sf_us, pk_us, pk_us, pk_us, pk_us, pk_us, pk_us, pk_us]
    exact ⟨rfl, rfl, rfl, Or.inr (Or.inl ⟨rfl, by omega, rfl, rfl, rfl, rfl⟩)⟩
  · by_cases e : a = A
    · exact ⟨P, by omega, sf_us, sf_us.trans e.symm⟩
    · obtain ⟨p, hp, e1, e2⟩ := I8 a (by omega)
      exact ⟨p, by omega, (sf_ue (by omega)).trans e1, (sf_ue (by omega)).trans e2⟩
end
theorem i_vc_array {k : Nat} {u : SX} {v : SY} (I : i_Rel k u v) (hk : k + 5 ≤ 2560) (v1 : Int32) (v2 : Int32) (v3 : Int32) : wpX_array (fun r u' => wpY_array (fun r' v' => r' = r ∧ i_Rel (k + 5) u' v') v v1 v2 v3) u v1 v2 v3 := by
  refine sf_el (Q := fun u v => wpX_array (fun r u' => wpY_array (fun r' v' => r' = r ∧ i_Rel (k + 5) u' v') v v1 v2 v3) u v1 v2 v3) ?_ I
  clear I u v
  intro P A H kd ar sz bo ia ib f_loops a_rankOf a_rows a_columns a_formatOf a_lines a_lineAt a_lineBegin a_placeAt a_numberAt a_kind a_number a_partA a_partB a_indexA a_indexB a_stack a_inside a_plain a_loopIndex a_spanOf a_lineIndex a_placeIndex a_atLine a_atPlace a_support a_value a_now a_left b_ranks b_rows b_widths b_formats b_cells b_kinds b_numbers b_sizes b_values b_firsts b_seconds b_at b_spans I
  have hb := I.2.2.2.1
  rcases sf_reg v1 with h | ⟨s, hs, rfl⟩
  · unfold wpX_array wpY_array
    exact sf_bR1 h (br_f (by decide) (sf_yR1 h (br_t rfl ⟨rfl, sf_in I⟩)))
  · rcases sf_idx v2 with h | ⟨i, hi, rfl⟩
    · unfold wpX_array wpY_array
      exact sf_bR0 hs (br_t rfl (sf_bI1 h (br_f (by decide) (sf_yR0 hs (br_f (by decide) (sf_yI1 h (br_t rfl ⟨rfl, sf_in I⟩)))))))
    · rcases sf_idx v3 with h | ⟨j, hj, rfl⟩
      · unfold wpX_array wpY_array
        exact sf_bR0 hs (br_t rfl (sf_bI0 hi (br_t rfl (sf_bI1 h (br_f (by decide) (sf_yR0 hs (br_f (by decide) (sf_yI0 hi (br_f (by decide) (sf_yI1 h (br_t rfl ⟨rfl, sf_in I⟩)))))))))))
      · obtain ⟨R, N, M, F, X, HY, Z⟩ := I.1 s hs
        refine sf_xarr hs X.1 hi hj (fun D => ?_) (fun D => sf_yarr hs HY hi hj (fun D2 => absurd D2 D) (fun _ => ⟨rfl, sf_in I⟩))
        unfold wX_array_103
        by_cases hP : P = 20
        · have e : nI P = 20 := congrArg nI hP
          exact br_t e (sf_yarr hs HY hi hj (fun _ => br_t e ⟨rfl, sf_in I⟩) (fun D2 => absurd D D2))
        · have e : ¬ nI P = 20 := sf_ne20 (n := 20) (by omega) (by omega) hP
          by_cases hA : A = 6
          · have e2 : nI A = 6 := congrArg nI hA
            exact br_f e (br_t e2 (sf_yarr hs HY hi hj (fun _ => br_f e (br_t e2 ⟨rfl, sf_in I⟩)) (fun D2 => absurd D D2)))
          · have e2 : ¬ nI A = 6 := sf_ne20 (n := 6) (by omega) (by omega) hA
            by_cases hH : H = 6
            · have e3 : nI H = 6 := congrArg nI hH
              exact br_f e (br_f e2 (br_t e3 (sf_yarr hs HY hi hj (fun _ => br_f e (br_f e2 (br_t e3 ⟨rfl, sf_in I⟩))) (fun D2 => absurd D D2))))
            · have e3 : ¬ nI H = 6 := sf_ne20 (n := 6) (by omega) (by omega) hH
              have ea : (6 : Int32) + nI A = nI (6 + A) := sf_a6 A
              have eb : (5 : Int32) + nI (A + 1) = nI (6 + A) := by
                rw [show (5 : Int32) = nI 5 from rfl, nI_add]
                exact congrArg nI (by omega)
              have hinA : vp_in (nI A) 6 := vp_in_nI (by omega) (by omega)
              have hinH : vp_in (nI H) 6 := vp_in_nI (by omega) (by omega)
              have hin6 : vp_in (nI (6 + A)) 13 := vp_in_nI (by omega) (by omega)
              have hcA : (nI A).toNatClampNeg = A := nI_clamp (by omega)
              have hcH : (nI H).toNatClampNeg = H := nI_clamp (by omega)
              have hc6 : (nI (6 + A)).toNatClampNeg = 6 + A := nI_clamp (by omega)
              refine br_f e (br_f e2 (br_f e3 ?_))
              rw [ea]
              refine sf_copy (by omega) (by omega) X Z (fun qk qr qc qf ql qa qb qp qn pl FR X2 => ?_)
              dsimp only
              rw [hcA]
              refine And.intro hinA (nm_e (And.intro hinA (nm_e (sf_part (by omega) (And.intro hinH ?_)))))
              rw [hcH]
              refine nm_e (nm_r (nI_1 A) (nm_r (nI_1 H) ?_))
              refine sf_yarr hs HY hi hj (fun _ => br_f e (br_f e2 (br_f e3 ?_))) (fun D2 => absurd D D2)
              rw [ea]
              refine sf_ycopy (by omega) (by omega) (by omega) (fun ce c1 c2 => ?_)
              dsimp only
              rw [ea, hc6]
              refine And.intro hin6 (nm_e (And.intro hin6 (nm_e (nm_r (nI_1 A) ?_))))
              rw [eb]
              refine sf_add0 (by omega) ⟨rfl, ?_⟩
              refine sf_in (sf_Rl_arr (by omega) (by omega) (by omega) I FR (fun t ht hne => ⟨pk_un hne, pk_un hne, pk_un hne, pk_un hne, fun y hy => c2 _ (by omega)⟩) (sf_XS_tr X2 (sf_EQ_rf _ _ _ _ _ _ _ _ _ _) (fun y hy => c1 y hy)) ⟨pk_us.trans HY.1, pk_us.trans HY.2.1, pk_us.trans HY.2.2.1, pk_us.trans HY.2.2.2.1, HY.2.2.2.2⟩ (sf_Z_tr Z (fun y hy => c1 y hy)) D)
end
section
/-! trees of parts -/
def sf_ch (kd sz : Nat → Nat) (q c : Nat) : Prop := (kd q = 2 ∧ c = q - 1) ∨ (3 ≤ kd q ∧ (c = q - 1 ∨ c = q - 1 - sz (q - 1)))
theorem sf_par {P : Nat} {kd sz : Nat → Nat} (T : sf_TR P kd sz) : ∀ n q, q < n → q < P → ∀ p, q + 1 ≤ p + sz q → p < q → ∃ r, p < r ∧ r ≤ q ∧ sf_ch kd sz r p := by
  intro n
  induction n with
  | zero => intro q hq; omega
  | succ n ih =>
    intro q hq hP p h1 h2
    obtain ⟨t1, t2, t3⟩ := T q hP
    rcases t3 with t3 | ⟨a1, a2, a3⟩ | ⟨a1, a2, a3, a4, a5⟩
    · omega
    · by_cases e : p = q - 1
      · exact ⟨q, h2, Nat.le_refl _, Or.inl ⟨a1, e⟩⟩
      · obtain ⟨r, r1, r2, r3⟩ := ih (q - 1) (by omega) (by omega) p (by omega) (by omega)
        exact ⟨r, r1, by omega, r3⟩
    · by_cases e : p = q - 1
      · exact ⟨q, h2, Nat.le_refl _, Or.inr ⟨a1, Or.inl e⟩⟩
      · by_cases e2 : p = q - 1 - sz (q - 1)
        · exact ⟨q, h2, Nat.le_refl _, Or.inr ⟨a1, Or.inr e2⟩⟩
        · by_cases e3 : q - 1 - sz (q - 1) < p
          · obtain ⟨r, r1, r2, r3⟩ := ih (q - 1) (by omega) (by omega) p (by omega) (by omega)
            exact ⟨r, r1, by omega, r3⟩
          · obtain ⟨r, r1, r2, r3⟩ := ih (q - 1 - sz (q - 1)) (by omega) (by omega) p (by omega) (by omega)
            exact ⟨r, r1, by omega, r3⟩
theorem sf_nest {P : Nat} {kd sz : Nat → Nat} (T : sf_TR P kd sz) : ∀ n t, t < n → t < P → ∀ q, q ≤ t → t + 1 ≤ q + sz t → t + 1 + sz q ≤ q + 1 + sz t := by
  intro n
  induction n with
  | zero => intro q hq; omega
  | succ n ih =>
    intro t ht hP q h1 h2
    by_cases e0 : q = t
    · rw [e0]
      exact Nat.le_refl _
    · obtain ⟨t1, t2, t3⟩ := T t hP
      rcases t3 with t3 | ⟨a1, a2, a3⟩ | ⟨a1, a2, a3, a4, a5⟩
      · omega
      · have r := ih (t - 1) (by omega) (by omega) q (by omega) (by omega)
        omega
      · by_cases e3 : q ≤ t - 1 - sz (t - 1)
        · have r := ih (t - 1 - sz (t - 1)) (by omega) (by omega) q e3 (by omega)
          omega
        · have r := ih (t - 1) (by omega) (by omega) q (by omega) (by omega)
          omega
theorem sf_chin {P : Nat} {kd sz : Nat → Nat} (T : sf_TR P kd sz) {q c t : Nat} (hq : q ≤ t) (ht : t < P) (hr : t + 1 ≤ q + sz t) (h : sf_ch kd sz q c) : t + 1 ≤ c + sz t ∧ c < q := by
  have n := sf_nest T (t + 1) t (by omega) ht q hq hr
  obtain ⟨t1, t2, t3⟩ := T q (by omega)
  unfold sf_ch at h
  rcases t3 with t3 | ⟨a1, a2, a3⟩ | ⟨a1, a2, a3, a4, a5⟩
  · omega
  · have := (T (q - 1) (by omega)).1
    omega
  · have b1 := (T (q - 1) (by omega)).1
    have b2 := (T (q - 1 - sz (q - 1)) (by omega)).1
    omega
/-! markParts -/
theorem sf_dm (m : Nat) : nI m + (-1) = nI m - 1 := (Int32.sub_eq_add_neg _ _).symm
theorem sf_nb1 : vp_nar .boolean 1 = 1 := rfl
theorem sf_nb0 : vp_nar .boolean 0 = 0 := rfl
def sf_MI (t m : Nat) (kd sz : Nat → Nat) (ins : Nat → Int32) : Prop := (∀ q, q ≤ t → ¬ ins q = 0 → t + 1 ≤ q + sz t) ∧ ¬ ins t = 0 ∧ ∀ r c, m ≤ r → r ≤ t → t + 1 ≤ r + sz t → sf_ch kd sz r c → ¬ ins c = 0
theorem sf_MI_at {P t m : Nat} {kd sz : Nat → Nat} {ins : Nat → Int32} (T : sf_TR P kd sz) (ht : t < P) (h : sf_MI t (m + 1) kd sz ins) (hm : m ≤ t) : (¬ ins m = 0 ↔ t + 1 ≤ m + sz t) := by
  refine ⟨h.1 m hm, fun w => ?_⟩
  by_cases e : m = t
  · rw [e]
    exact h.2.1
  · obtain ⟨r, r1, r2, r3⟩ := sf_par T (t + 1) t (by omega) ht m w (by omega)
    exact h.2.2 r m (by omega) r2 (by omega) r3
theorem sf_MI_s {P t m : Nat} {kd sz : Nat → Nat} {ins ins' : Nat → Int32} (T : sf_TR P kd sz) (ht : t < P) (h : sf_MI t (m + 1) kd sz ins) (hm : m ≤ t) (h1 : ∀ q, ¬ ins q = 0 → ¬ ins' q = 0) (h2 : ∀ q, ¬ ins' q = 0 → ¬ ins q = 0 ∨ (¬ ins m = 0 ∧ sf_ch kd sz m q)) (h3 : ¬ ins m = 0 → ∀ c, sf_ch kd sz m c → ¬ ins' c = 0) : sf_MI t m kd sz ins' := by
  refine ⟨fun q hq hn => ?_, h1 _ h.2.1, fun r c a1 a2 a3 a4 => ?_⟩
  · rcases h2 q hn with w | ⟨w1, w2⟩
    · exact h.1 q hq w
    · exact (sf_chin T hm ht (h.1 m hm w1) w2).1
  · by_cases e : r = m
    · subst e
      exact h3 ((sf_MI_at T ht h hm).mpr a3) c a4
    · exact h1 _ (h.2.2 r c (by omega) a2 a3 a4)
section
variable {f_parts f_arrays f_height f_loops : Int32} {a_rankOf a_rows a_columns a_formatOf a_lines a_lineAt a_lineBegin a_placeAt a_numberAt a_kind a_number a_partA a_partB a_indexA a_indexB a_stack a_inside a_plain a_loopIndex a_spanOf a_lineIndex a_placeIndex a_atLine a_atPlace a_support a_value a_now a_left : Nat → Int32}
theorem sf_mk34 {post : SX → Prop} {P A : Nat} {kd ar sz : Nat → Nat} {yk yn ys : Nat → Int32} (T : sf_TR P kd sz) (D : sf_PD P A kd ar sz a_kind a_number a_partA a_partB yk yn ys) (hP : P ≤ 20) {t : Nat} (ht : t < P)
    (h : ∀ ins : Nat → Int32, (∀ q, q ≤ t → (¬ ins q = 0 ↔ t + 1 ≤ q + sz t)) → post (f_parts, f_arrays, f_height, f_loops, a_rankOf, a_rows, a_columns, a_formatOf, a_lines, a_lineAt, a_lineBegin, a_placeAt, a_numberAt, a_kind, a_number, a_partA, a_partB, a_indexA, a_indexB, a_stack, ins, a_plain, a_loopIndex, a_spanOf, a_lineIndex, a_placeIndex, a_atLine, a_atPlace, a_support, a_value, a_now, a_left)) :
    ∀ m ins, m ≤ t + 1 → sf_MI t m kd sz ins → wX_markParts_34 post f_parts f_arrays f_height f_loops (m + 1) (nI m - 1) a_rankOf a_rows a_columns a_formatOf a_lines a_lineAt a_lineBegin a_placeAt a_numberAt a_kind a_number a_partA a_partB a_indexA a_indexB a_stack ins a_plain a_loopIndex a_spanOf a_lineIndex a_placeIndex a_atLine a_atPlace a_support a_value a_now a_left := by
  intro m
  induction m with
  | zero =>
    intro ins hm I
    refine br_t (by decide) (h ins (fun q hq => ?_))
    refine ⟨I.1 q hq, fun w => ?_⟩
    by_cases e : q = t
    · rw [e]
      exact I.2.1
    · obtain ⟨r, r1, r2, r3⟩ := sf_par T (t + 1) t (by omega) ht q w (by omega)
      exact I.2.2 r q (by omega) r2 (by omega) r3
  | succ m ih =>
    intro ins hm I
    have hin : vp_in (nI m) 20 := vp_in_nI (by omega) (by omega)
    have hc : (nI m).toNatClampNeg = m := nI_clamp (by omega)
    have next : ∀ ins' : Nat → Int32, sf_MI t m kd sz ins' → ∀ x2, x2 = nI m + (-1) → wX_markParts_34 post f_parts f_arrays f_height f_loops (m + 1) x2 a_rankOf a_rows a_columns a_formatOf a_lines a_lineAt a_lineBegin a_placeAt a_numberAt a_kind a_number a_partA a_partB a_indexA a_indexB a_stack ins' a_plain a_loopIndex a_spanOf a_lineIndex a_placeIndex a_atLine a_atPlace a_support a_value a_now a_left := by
      intro ins' I' x2 e
      rw [e, sf_dm]
      exact ih ins' (by omega) I'
    obtain ⟨d1, d2, d3, d4⟩ := D m (by omega)
    obtain ⟨t1, t2, t3⟩ := T m (by omega)
    rw [nI_pred]
    refine br_f (nI_pos (by omega)) (And.intro hin ?_)
    rw [hc]
    have skip : (ins m = 0 ∨ (a_partA m = -1 ∧ a_partB m = -1)) → sf_MI t m kd sz ins := by
      intro w
      refine sf_MI_s T (by omega) I (by omega) (fun q hq => hq) (fun q hq => Or.inl hq) (fun w2 c hch => ?_)
      rcases w with w | w
      · exact absurd w w2
      · exfalso
        unfold sf_ch at hch
        rcases d4 with ⟨e0, _⟩ | ⟨e0, _⟩ | ⟨e0, e1, _⟩ | ⟨e0, e1, e2, _⟩
        · omega
        · omega
        · rw [w.1] at e1
          exact sf_nm1 (k := m - 1) (by omega) e1.symm
        · rw [w.1] at e2
          exact sf_nm1 (k := m - 1 - sz (m - 1)) (by omega) e2.symm
    refine br_c (fun z => ?_) (fun z => And.intro hin ?_)
    · unfold wX_markParts_69
      rw [hc]
      exact ⟨hin, br_t z (next ins (skip (Or.inl z)))⟩
    · rcases d4 with ⟨e0, e1, e2, e3⟩ | ⟨e0, e1, e2, e3, e4, e5⟩ | ⟨e0, e1, e2⟩ | ⟨e0, e1, e2, e3⟩
      · refine br_t e2 ?_
        unfold wX_markParts_69
        rw [hc]
        exact ⟨hin, br_f z ⟨hin, br_t e3 (next ins (skip (Or.inr ⟨e2, e3⟩)))⟩⟩
      · refine br_t e4 ?_
        unfold wX_markParts_69
        rw [hc]
        exact ⟨hin, br_f z ⟨hin, br_t e5 (next ins (skip (Or.inr ⟨e4, e5⟩)))⟩⟩
      · have hm1 : 1 ≤ m := by omega
        rw [e1]
        refine br_f (sf_nm1 (by omega)) (And.intro hin (And.intro (vp_in_nI (by omega) (by omega)) ?_))
        rw [nI_clamp (by omega)]
        refine nm_e ?_
        rw [sf_nb1]
        unfold wX_markParts_69
        rw [hc]
        have z' : ¬ upd ins (m - 1) 1 m = 0 := by
          rw [pk_un (by omega)]
          exact z
        refine ⟨hin, br_f z' ⟨hin, br_t e2 (next _ (sf_MI_s T (by omega) I (by omega) (fun q hq => ?_) (fun q hq => ?_) (fun w2 c hch => ?_)))⟩⟩
        · by_cases e : q = m - 1
          · rw [e, pk_us]
            decide
          · rw [pk_un e]
            exact hq
        · by_cases e : q = m - 1
          · exact Or.inr ⟨z, Or.inl ⟨e0, e⟩⟩
          · rw [pk_un e] at hq
            exact Or.inl hq
        · unfold sf_ch at hch
          have e : c = m - 1 := by omega
          rw [e, pk_us]
          decide
      · have hm1 : 1 ≤ m := by omega
        have hs1 : sz (m - 1) + 1 ≤ m := by omega
        have hs2 := (T (m - 1) (by omega)).1
        rw [e2]
        refine br_f (sf_nm1 (by omega)) (And.intro hin (And.intro (vp_in_nI (by omega) (by omega)) ?_))
        rw [nI_clamp (by omega)]
        refine nm_e ?_
        rw [sf_nb1]
        unfold wX_markParts_69
        rw [hc, e3]
        have z' : ¬ upd ins (m - 1 - sz (m - 1)) 1 m = 0 := by
          rw [pk_un (by omega)]
          exact z
        refine ⟨hin, br_f z' ⟨hin, br_f (sf_nm1 (by omega)) ⟨hin, vp_in_nI (by omega) (by omega), ?_⟩⟩⟩
        rw [nI_clamp (by omega)]
        refine nm_e ?_
        rw [sf_nb1]
        refine next _ (sf_MI_s T (by omega) I (by omega) (fun q hq => ?_) (fun q hq => ?_) (fun w2 c hch => ?_))
        · by_cases e : q = m - 1
          · rw [e, pk_us]
            decide
          · rw [pk_un e]
            by_cases e' : q = m - 1 - sz (m - 1)
            · rw [e', pk_us]
              decide
            · rw [pk_un e']
              exact hq
        · by_cases e : q = m - 1
          · exact Or.inr ⟨z, Or.inr ⟨e0, Or.inl e⟩⟩
          · rw [pk_un e] at hq
            by_cases e' : q = m - 1 - sz (m - 1)
            · exact Or.inr ⟨z, Or.inr ⟨e0, Or.inr e'⟩⟩
            · rw [pk_un e'] at hq
              exact Or.inl hq
        · unfold sf_ch at hch
          by_cases e : c = m - 1
          · rw [e, pk_us]
            decide
          · have e' : c = m - 1 - sz (m - 1) := by omega
            rw [pk_un e, e', pk_us]
            decide
theorem sf_mk2 {post : SX → Prop} {P t : Nat} (hP : P ≤ 20) (ht : t < P) (h : ∀ ins : Nat → Int32, (∀ q, q < P → ins q = if q = t then 1 else 0) → ∃ n34, wX_markParts_34 post (nI P) f_arrays f_height f_loops n34 (nI t) a_rankOf a_rows a_columns a_formatOf a_lines a_lineAt a_lineBegin a_placeAt a_numberAt a_kind a_number a_partA a_partB a_indexA a_indexB a_stack ins a_plain a_loopIndex a_spanOf a_lineIndex a_placeIndex a_atLine a_atPlace a_support a_value a_now a_left) :
    ∀ d m ins, m + d = P → (∀ q, q < m → ins q = if q = t then 1 else 0) → wX_markParts_2 post (nI t) (nI P) f_arrays f_height f_loops (d + 1) (nI m) a_rankOf a_rows a_columns a_formatOf a_lines a_lineAt a_lineBegin a_placeAt a_numberAt a_kind a_number a_partA a_partB a_indexA a_indexB a_stack ins a_plain a_loopIndex a_spanOf a_lineIndex a_placeIndex a_atLine a_atPlace a_support a_value a_now a_left := by
  intro d
  induction d with
  | zero =>
    intro m ins hm hq
    have e : m = P := by omega
    subst e
    exact br_t (nI_le (Nat.le_refl _) (by omega)) (h ins hq)
  | succ d ih =>
    intro m ins hm hq
    have hin : vp_in (nI m) 20 := vp_in_nI (by omega) (by omega)
    have hc : (nI m).toNatClampNeg = m := nI_clamp (by omega)
    refine br_f (nI_ge (by omega) (by omega)) (pk_eq m t (fun e => And.intro hin ?_) (fun e => And.intro hin ?_))
    · rw [hc, sf_nb1]
      refine nm_e (nm_r (nI_1 m) (ih (m + 1) _ (by omega) (fun q hq2 => ?_)))
      by_cases e2 : q = m
      · rw [e2, pk_us, if_pos e]
      · rw [pk_un e2]
        exact hq q (by omega)
    · rw [hc, sf_nb0]
      refine nm_e (nm_r (nI_1 m) (ih (m + 1) _ (by omega) (fun q hq2 => ?_)))
      by_cases e2 : q = m
      · rw [e2, pk_us, if_neg e]
      · rw [pk_un e2]
        exact hq q (by omega)
theorem sf_mark {post : SX → Prop} {P A : Nat} {kd ar sz : Nat → Nat} {yk yn ys : Nat → Int32} (T : sf_TR P kd sz) (D : sf_PD P A kd ar sz a_kind a_number a_partA a_partB yk yn ys) (hP : P ≤ 20) (h0 : 0 < P)
    (h : ∀ ins : Nat → Int32, (∀ q, q < P → (¬ ins q = 0 ↔ P ≤ q + sz (P - 1))) → post ((nI P), f_arrays, f_height, f_loops, a_rankOf, a_rows, a_columns, a_formatOf, a_lines, a_lineAt, a_lineBegin, a_placeAt, a_numberAt, a_kind, a_number, a_partA, a_partB, a_indexA, a_indexB, a_stack, ins, a_plain, a_loopIndex, a_spanOf, a_lineIndex, a_placeIndex, a_atLine, a_atPlace, a_support, a_value, a_now, a_left)) : wpX_markParts post ((nI P), f_arrays, f_height, f_loops, a_rankOf, a_rows, a_columns, a_formatOf, a_lines, a_lineAt, a_lineBegin, a_placeAt, a_numberAt, a_kind, a_number, a_partA, a_partB, a_indexA, a_indexB, a_stack, a_inside, a_plain, a_loopIndex, a_spanOf, a_lineIndex, a_placeIndex, a_atLine, a_atPlace, a_support, a_value, a_now, a_left) (nI (P - 1)) := by
  unfold wpX_markParts
  refine ⟨P + 1, sf_mk2 hP (by omega) (fun ins hins => ⟨P + 1, ?_⟩) P 0 _ (Nat.zero_add _) (fun q hq => absurd hq (Nat.not_lt_zero q))⟩
  have k := sf_mk34 (post := post) (f_parts := nI P) (f_arrays := f_arrays) (f_height := f_height) (f_loops := f_loops) (a_rankOf := a_rankOf) (a_rows := a_rows) (a_columns := a_columns) (a_formatOf := a_formatOf) (a_lines := a_lines) (a_lineAt := a_lineAt) (a_lineBegin := a_lineBegin) (a_placeAt := a_placeAt) (a_numberAt := a_numberAt) (a_indexA := a_indexA) (a_indexB := a_indexB) (a_stack := a_stack) (a_plain := a_plain) (a_loopIndex := a_loopIndex) (a_spanOf := a_spanOf) (a_lineIndex := a_lineIndex) (a_placeIndex := a_placeIndex) (a_atLine := a_atLine) (a_atPlace := a_atPlace) (a_support := a_support) (a_value := a_value) (a_now := a_now) (a_left := a_left) T D hP (t := P - 1) (by omega) (fun ins hi => h ins (fun q hq => by rw [hi q (by omega), show P - 1 + 1 = P by omega])) P ins (by omega) ⟨fun q hq hn => ?_, ?_, fun r c a1 a2 => by omega⟩
  · rw [show nI P - 1 = nI (P - 1) by rw [show (1 : Int32) = nI 1 from rfl, pk_sub (by omega)]] at k
    exact k
  · rw [hins q (by omega)] at hn
    by_cases e : q = P - 1
    · have := (T (P - 1) (by omega)).1
      omega
    · rw [if_neg e] at hn
      exact absurd rfl hn
  · rw [hins (P - 1) (by omega), if_pos rfl]
    decide
end
end
section
/-! the lengths of indices: 0 none, 7 several -/
def sf_ex (n : Nat) : Int32 := if n = 7 then -1000000005 else nI n
def sf_ey (n : Nat) : Int32 := if n = 7 then -1 else nI n
theorem sf_ex_t : ∀ n, n ≤ 7 → (sf_ex n = 0 ↔ n = 0) ∧ (sf_ey n = 0 ↔ n = 0) ∧ (sf_ex n = -1000000005 ↔ n = 7) ∧ (sf_ey n < 0 ↔ n = 7) ∧ (0 ≤ sf_ey n ↔ n ≠ 7) ∧ (sf_ex n ≤ 0 ↔ (n = 0 ∨ n = 7)) := by decide +kernel
theorem sf_ex_n : ∀ n, n ≤ 7 → ∀ m, m ≤ 6 → (sf_ex n = nI m ↔ n = m) ∧ (sf_ey n = nI m ↔ n = m) := by decide +kernel
theorem sf_ex_l {n : Nat} (h : n ≠ 7) : sf_ex n = nI n := if_neg h
theorem sf_ey_l {n : Nat} (h : n ≠ 7) : sf_ey n = nI n := if_neg h
def sf_as (f : Nat → Nat) (i n : Nat) : Nat → Nat := fun p => if p = i then (if f p = 0 ∨ f p = n then n else 7) else f p
theorem sf_as_n {f : Nat → Nat} {i n p : Nat} (h : p ≠ i) : sf_as f i n p = f p := if_neg h
theorem sf_as_e {f : Nat → Nat} {i n : Nat} (h : f i = 0 ∨ f i = n) : sf_as f i n i = n := by
  unfold sf_as
  rw [if_pos rfl, if_pos h]
theorem sf_as_7 {f : Nat → Nat} {i n : Nat} (h : ¬ (f i = 0 ∨ f i = n)) : sf_as f i n i = 7 := by
  unfold sf_as
  rw [if_pos rfl, if_neg h]
theorem sf_as_le {f : Nat → Nat} {i n : Nat} (hn : n ≤ 6) (h : ∀ p, f p ≤ 7) : ∀ p, sf_as f i n p ≤ 7 := by
  intro p
  by_cases e : p = i
  · subst e
    by_cases w : f p = 0 ∨ f p = n
    · rw [sf_as_e w]
      omega
    · rw [sf_as_7 w]
      omega
  · rw [sf_as_n e]
    exact h p
/-- after the parts from fr below k -/
def sf_sf (kd ar ia ib NN MM : Nat → Nat) (fr : Nat) : Nat → Nat → Nat
  | 0 => fun _ => 0
  | k + 1 => if fr ≤ k ∧ kd k = 1 then sf_as (sf_as (sf_sf kd ar ia ib NN MM fr k) (ia (ar k)) (NN (ar k))) (ib (ar k)) (MM (ar k)) else sf_sf kd ar ia ib NN MM fr k
section
variable {kd ar ia ib NN MM : Nat → Nat} {fr A P : Nat}
theorem sf_sf_t {k : Nat} (h : fr ≤ k) (h1 : kd k = 1) : sf_sf kd ar ia ib NN MM fr (k + 1) = sf_as (sf_as (sf_sf kd ar ia ib NN MM fr k) (ia (ar k)) (NN (ar k))) (ib (ar k)) (MM (ar k)) := if_pos ⟨h, h1⟩
theorem sf_sf_f {k : Nat} (h : ¬ (fr ≤ k ∧ kd k = 1)) : sf_sf kd ar ia ib NN MM fr (k + 1) = sf_sf kd ar ia ib NN MM fr k := if_neg h
theorem sf_sf_0 : ∀ k, k ≤ fr → sf_sf kd ar ia ib NN MM fr k = fun _ => 0
  | 0, _ => rfl
  | k + 1, h => by
    rw [sf_sf_f (by omega)]
    exact sf_sf_0 k (by omega)
theorem sf_sf_le (hN : ∀ a, a < A → NN a ≤ 6 ∧ MM a ≤ 6) (ha : ∀ k, k < P → kd k = 1 → ar k < A) : ∀ k, k ≤ P → ∀ p, sf_sf kd ar ia ib NN MM fr k p ≤ 7
  | 0, _, p => Nat.zero_le _
  | k + 1, h, p => by
    have i := sf_sf_le hN ha k (by omega)
    by_cases c : fr ≤ k ∧ kd k = 1
    · rw [sf_sf_t c.1 c.2]
      have b := hN _ (ha k (by omega) c.2)
      exact sf_as_le b.2 (sf_as_le b.1 i) p
    · rw [sf_sf_f c]
      exact i p
/-- an index of an array within has the array's length, or 7 -/
theorem sf_as_k {f : Nat → Nat} {i n p v : Nat} (hv : 1 ≤ v) (hv2 : v ≤ 6) (hn : n ≤ 6) (h : f p = v ∨ f p = 7) : sf_as f i n p = v ∨ sf_as f i n p = 7 := by
  by_cases e : p = i
  · subst e
    by_cases w : f p = 0 ∨ f p = n
    · rw [sf_as_e w]
      omega
    · exact Or.inr (sf_as_7 w)
  · rw [sf_as_n e]
    exact h
theorem sf_as_s {f : Nat → Nat} {p v : Nat} : sf_as f p v p = v ∨ sf_as f p v p = 7 := by
  by_cases w : f p = 0 ∨ f p = v
  · exact Or.inl (sf_as_e w)
  · exact Or.inr (sf_as_7 w)
theorem sf_sf_v (hN : ∀ a, a < A → 1 ≤ NN a ∧ NN a ≤ 6 ∧ 1 ≤ MM a ∧ MM a ≤ 6) (ha : ∀ k, k < P → kd k = 1 → ar k < A) :
    ∀ k, k ≤ P → ∀ j, j < k → fr ≤ j → kd j = 1 → (sf_sf kd ar ia ib NN MM fr k (ia (ar j)) = NN (ar j) ∨ sf_sf kd ar ia ib NN MM fr k (ia (ar j)) = 7) ∧ (sf_sf kd ar ia ib NN MM fr k (ib (ar j)) = MM (ar j) ∨ sf_sf kd ar ia ib NN MM fr k (ib (ar j)) = 7)
  | 0, _, j, hj, _, _ => absurd hj (Nat.not_lt_zero j)
  | k + 1, h, j, hj, hf, h1 => by
    have bj := hN _ (ha j (by omega) h1)
    by_cases c : fr ≤ k ∧ kd k = 1
    · rw [sf_sf_t c.1 c.2]
      have b := hN _ (ha k (by omega) c.2)
      by_cases e : j = k
      · subst e
        exact ⟨sf_as_k bj.1 bj.2.1 b.2.2.2 sf_as_s, sf_as_s⟩
      · have i := sf_sf_v hN ha k (by omega) j (by omega) hf h1
        exact ⟨sf_as_k bj.1 bj.2.1 b.2.2.2 (sf_as_k bj.1 bj.2.1 b.2.1 i.1), sf_as_k bj.2.2.1 bj.2.2.2 b.2.2.2 (sf_as_k bj.2.2.1 bj.2.2.2 b.2.1 i.2)⟩
    · rw [sf_sf_f c]
      have e : j ≠ k := by
        intro e
        subst e
        exact c ⟨hf, h1⟩
      exact sf_sf_v hN ha k (by omega) j (by omega) hf h1
end
/-- the arrays' sides -/
def sf_DM (A : Nat) (NN MM : Nat → Nat) (xr xc : Nat → Int32) : Prop := ∀ a, a < A → xr (6 + a) = nI (NN a) ∧ xc (6 + a) = nI (MM a)
def sf_DB (A : Nat) (NN MM ia ib : Nat → Nat) : Prop := ∀ a, a < A → 1 ≤ NN a ∧ NN a ≤ 6 ∧ 1 ≤ MM a ∧ MM a ≤ 6 ∧ ia a ≤ 3 ∧ ib a ≤ 3
section
variable {f_parts f_arrays f_height f_loops : Int32} {a_rankOf a_rows a_columns a_formatOf a_lines a_lineAt a_lineBegin a_placeAt a_numberAt a_kind a_number a_partA a_partB a_indexA a_indexB a_stack a_inside a_plain a_loopIndex a_spanOf a_lineIndex a_placeIndex a_atLine a_atPlace a_support a_value a_now a_left : Nat → Int32}
theorem sf_addSpan {post : SX → Prop} {f : Nat → Nat} {i n : Nat} (hi : i ≤ 3) (hn : n ≤ 6) (hf : ∀ p, f p ≤ 7) (hs : ∀ p, p < 3 → a_spanOf p = sf_ex (f p)) (h : ∀ sp : Nat → Int32, (∀ p, p < 3 → sp p = sf_ex (sf_as f i n p)) → post (f_parts, f_arrays, f_height, f_loops, a_rankOf, a_rows, a_columns, a_formatOf, a_lines, a_lineAt, a_lineBegin, a_placeAt, a_numberAt, a_kind, a_number, a_partA, a_partB, a_indexA, a_indexB, a_stack, a_inside, a_plain, a_loopIndex, sp, a_lineIndex, a_placeIndex, a_atLine, a_atPlace, a_support, a_value, a_now, a_left)) : wpX_addSpan post (f_parts, f_arrays, f_height, f_loops, a_rankOf, a_rows, a_columns, a_formatOf, a_lines, a_lineAt, a_lineBegin, a_placeAt, a_numberAt, a_kind, a_number, a_partA, a_partB, a_indexA, a_indexB, a_stack, a_inside, a_plain, a_loopIndex, a_spanOf, a_lineIndex, a_placeIndex, a_atLine, a_atPlace, a_support, a_value, a_now, a_left) (sf_eI i) (nI n) := by
  unfold wpX_addSpan
  dsimp only
  refine sf_pe hi (fun e => h _ (fun p hp => ?_)) (fun e => ?_)
  · rw [sf_as_n (by omega)]
    exact hs p hp
  · rw [sf_eI_l e, nI_clamp (by omega), hs i e]
    have hin : vp_in (nI i) 3 := vp_in_nI e (by omega)
    have t := sf_ex_t (f i) (hf i)
    have t2 := (sf_ex_n (f i) (hf i) n hn).1
    have g1 : (f i = 0 ∨ f i = n) → ∀ p, p < 3 → upd a_spanOf i (nI n) p = sf_ex (sf_as f i n p) := by
      intro w p hp
      by_cases e2 : p = i
      · subst e2
        rw [pk_us, sf_as_e w, sf_ex_l (by omega)]
      · rw [pk_un e2, sf_as_n e2]
        exact hs p hp
    refine And.intro hin (br_c (fun w => And.intro hin (nm_e (h _ (g1 (Or.inl (t.1.mp w)))))) (fun w => And.intro hin (br_c (fun w2 => And.intro hin (nm_e (h _ (g1 (Or.inr (t2.mp w2)))))) (fun w2 => And.intro hin (nm_e (h _ (fun p hp => ?_)))))))
    by_cases e2 : p = i
    · subst e2
      rw [pk_us, sf_as_7 (fun w3 => w3.elim (fun a => w (t.1.mpr a)) (fun a => w2 (t2.mpr a)))]
      rfl
    · rw [pk_un e2, sf_as_n e2]
      exact hs p hp
theorem sf_fs27 {post : SX → Prop} {P A fr : Nat} {kd ar sz ia ib NN MM : Nat → Nat} {yk yn ys yA yB : Nat → Int32} (D : sf_PD P A kd ar sz a_kind a_number a_partA a_partB yk yn ys) (hP : P ≤ 20) (h0 : 0 < P) (hA : A ≤ 6)
    (hin : ∀ q, q < P → (¬ a_inside q = 0 ↔ fr ≤ q)) (IX : sf_IX A ia ib a_indexA a_indexB yA yB) (DM : sf_DM A NN MM a_rows a_columns) (DB : sf_DB A NN MM ia ib)
    (h : ∀ sp : Nat → Int32, (∀ p, p < 3 → sp p = sf_ex (sf_sf kd ar ia ib NN MM fr P p)) → post (f_parts, f_arrays, f_height, f_loops, a_rankOf, a_rows, a_columns, a_formatOf, a_lines, a_lineAt, a_lineBegin, a_placeAt, a_numberAt, a_kind, a_number, a_partA, a_partB, a_indexA, a_indexB, a_stack, a_inside, a_plain, a_loopIndex, sp, a_lineIndex, a_placeIndex, a_atLine, a_atPlace, a_support, a_value, a_now, a_left)) :
    ∀ d k sp, k + d = P → (∀ p, p < 3 → sp p = sf_ex (sf_sf kd ar ia ib NN MM fr k p)) → wX_findSpans_27 post (nI (P - 1)) (d + 1) (nI k) f_parts f_arrays f_height f_loops a_rankOf a_rows a_columns a_formatOf a_lines a_lineAt a_lineBegin a_placeAt a_numberAt a_kind a_number a_partA a_partB a_indexA a_indexB a_stack a_inside a_plain a_loopIndex sp a_lineIndex a_placeIndex a_atLine a_atPlace a_support a_value a_now a_left := by
  have hle := sf_sf_le (kd := kd) (ar := ar) (ia := ia) (ib := ib) (NN := NN) (MM := MM) (fr := fr) (A := A) (P := P) (fun a ha => ⟨(DB a ha).2.1, (DB a ha).2.2.2.1⟩) (fun k hk h1 => by
    obtain ⟨_, _, _, d4⟩ := D k hk
    rcases d4 with ⟨e0, _⟩ | ⟨e0, e1, _⟩ | ⟨e0, _⟩ | ⟨e0, _⟩
    · omega
    · exact e1
    · omega
    · omega)
  intro d
  induction d with
  | zero =>
    intro k sp hk hs
    have e : k = P := by omega
    subst e
    exact br_t (nI_lt (by omega) (by omega)) (h sp hs)
  | succ d ih =>
    intro k sp hk hs
    have hi : vp_in (nI k) 20 := vp_in_nI (by omega) (by omega)
    have hc : (nI k).toNatClampNeg = k := nI_clamp (by omega)
    obtain ⟨d1, d2, d3, d4⟩ := D k (by omega)
    refine br_f (nI_nlt (by omega) (by omega)) (And.intro hi ?_)
    rw [hc, d1]
    refine br_c (fun z => nm_r (nI_1 k) (ih (k + 1) sp (by omega) ?_)) (fun z => And.intro hi (pk_eq (kd k) 1 (fun e => And.intro hi ?_) (fun e => nm_r (nI_1 k) (ih (k + 1) sp (by omega) ?_))))
    · rw [sf_sf_f (fun w => (hin k (by omega)).mpr w.1 z)]
      exact hs
    · rcases d4 with ⟨e0, _⟩ | ⟨e0, e1, e2, _⟩ | ⟨e0, _⟩ | ⟨e0, _⟩
      · omega
      · have b := DB _ e1
        have x := IX _ e1
        have m := DM _ e1
        have hk := (hin k (by omega)).mp z
        have ha : vp_in (nI (ar k)) 6 := vp_in_nI (by omega) (by omega)
        have hb : vp_in ((6 : Int32) + nI (ar k)) 13 := by
          rw [sf_a6]
          exact vp_in_nI (by omega) (by omega)
        rw [e2]
        refine nm_e ?_
        rw [sf_a6, nI_clamp (by omega), nI_clamp (by omega), x.1, m.1]
        rw [sf_a6] at hb
        refine And.intro ha (And.intro hb (sf_addSpan b.2.2.2.2.1 b.2.1 (hle k (by omega)) hs (fun sp2 hs2 => ?_)))
        dsimp only
        rw [x.2.1, m.2]
        refine And.intro ha (And.intro hb (sf_addSpan b.2.2.2.2.2 b.2.2.2.1 (sf_as_le b.2.1 (hle k (by omega))) hs2 (fun sp3 hs3 => nm_r (nI_1 k) (ih (k + 1) sp3 (by omega) ?_))))
        rw [sf_sf_t hk e]
        exact hs3
      · omega
      · omega
    · rw [sf_sf_f (fun w => e w.2)]
      exact hs
theorem sf_fs7 {post : SX → Prop} {t : Int32} (h : ∀ sp : Nat → Int32, (∀ p, p < 3 → sp p = 0) → ∃ n, wX_findSpans_27 post t n 0 f_parts f_arrays f_height f_loops a_rankOf a_rows a_columns a_formatOf a_lines a_lineAt a_lineBegin a_placeAt a_numberAt a_kind a_number a_partA a_partB a_indexA a_indexB a_stack a_inside a_plain a_loopIndex sp a_lineIndex a_placeIndex a_atLine a_atPlace a_support a_value a_now a_left) :
    ∀ (d k : Nat) (sp : Nat → Int32), k + d = 3 → (∀ p, p < k → sp p = 0) → wX_findSpans_7 post t f_parts f_arrays f_height f_loops (d + 1) (nI k) a_rankOf a_rows a_columns a_formatOf a_lines a_lineAt a_lineBegin a_placeAt a_numberAt a_kind a_number a_partA a_partB a_indexA a_indexB a_stack a_inside a_plain a_loopIndex sp a_lineIndex a_placeIndex a_atLine a_atPlace a_support a_value a_now a_left := by
  intro d
  induction d with
  | zero =>
    intro k sp hk hs
    have e : k = 3 := by omega
    subst e
    exact br_t (nI_le (a := 3) (b := 3) (by omega) (by omega)) (h sp hs)
  | succ d ih =>
    intro k sp hk hs
    refine br_f (nI_ge (a := k) (b := 3) (by omega) (by omega)) (And.intro (vp_in_nI (by omega) (by omega)) ?_)
    rw [nI_clamp (by omega)]
    refine nm_e (nm_r (nI_1 k) (ih (k + 1) _ (by omega) (fun p hp => ?_)))
    by_cases e : p = k
    · rw [e, pk_us]
    · rw [pk_un e]
      exact hs p (by omega)
theorem sf_xspans {post : SX → Prop} {P A : Nat} {kd ar sz ia ib NN MM : Nat → Nat} {yk yn ys yA yB : Nat → Int32} (T : sf_TR P kd sz) (D : sf_PD P A kd ar sz a_kind a_number a_partA a_partB yk yn ys) (hP : P ≤ 20) (h0 : 0 < P) (hA : A ≤ 6)
    (IX : sf_IX A ia ib a_indexA a_indexB yA yB) (DM : sf_DM A NN MM a_rows a_columns) (DB : sf_DB A NN MM ia ib)
    (h : ∀ ins sp : Nat → Int32, (∀ q, q < P → (¬ ins q = 0 ↔ P - sz (P - 1) ≤ q)) → (∀ p, p < 3 → sp p = sf_ex (sf_sf kd ar ia ib NN MM (P - sz (P - 1)) P p)) → post ((nI P), f_arrays, f_height, f_loops, a_rankOf, a_rows, a_columns, a_formatOf, a_lines, a_lineAt, a_lineBegin, a_placeAt, a_numberAt, a_kind, a_number, a_partA, a_partB, a_indexA, a_indexB, a_stack, ins, a_plain, a_loopIndex, sp, a_lineIndex, a_placeIndex, a_atLine, a_atPlace, a_support, a_value, a_now, a_left)) : wpX_findSpans post ((nI P), f_arrays, f_height, f_loops, a_rankOf, a_rows, a_columns, a_formatOf, a_lines, a_lineAt, a_lineBegin, a_placeAt, a_numberAt, a_kind, a_number, a_partA, a_partB, a_indexA, a_indexB, a_stack, a_inside, a_plain, a_loopIndex, a_spanOf, a_lineIndex, a_placeIndex, a_atLine, a_atPlace, a_support, a_value, a_now, a_left) (nI (P - 1)) := by
  unfold wpX_findSpans
  refine sf_mark T D hP h0 (fun ins hins => ?_)
  have hins2 : ∀ q, q < P → (¬ ins q = 0 ↔ P - sz (P - 1) ≤ q) := fun q hq => (hins q hq).trans (by omega)
  refine ⟨4, sf_fs7 (fun sp hs => ⟨P + 1, ?_⟩) 3 0 _ rfl (fun p hp => absurd hp (Nat.not_lt_zero p))⟩
  exact sf_fs27 D hP h0 hA hins2 IX DM DB (fun sp hs => h ins sp hins2 hs) P 0 sp (Nat.zero_add _) (fun p hp => hs p hp)
end
section
variable {g_parts g_arrays g_depth : Int32} {b_ranks b_rows b_widths b_formats b_cells b_kinds b_numbers b_sizes b_values b_firsts b_seconds b_at b_spans : Nat → Int32}
theorem sf_note {post : SY → Prop} {f : Nat → Nat} {i n : Nat} (hi : i ≤ 3) (hn : n ≤ 6) (hf : ∀ p, f p ≤ 7) (hs : ∀ p, p < 3 → b_spans p = sf_ey (f p)) (h : ∀ sp : Nat → Int32, (∀ p, p < 3 → sp p = sf_ey (sf_as f i n p)) → post (g_parts, g_arrays, g_depth, b_ranks, b_rows, b_widths, b_formats, b_cells, b_kinds, b_numbers, b_sizes, b_values, b_firsts, b_seconds, b_at, sp)) : wpY_noteSpan post (g_parts, g_arrays, g_depth, b_ranks, b_rows, b_widths, b_formats, b_cells, b_kinds, b_numbers, b_sizes, b_values, b_firsts, b_seconds, b_at, b_spans) (sf_eI i) (nI n) := by
  unfold wpY_noteSpan
  dsimp only
  refine sf_pn hi (fun e => h _ (fun p hp => ?_)) (fun e => ?_)
  · rw [sf_as_n (by omega)]
    exact hs p hp
  · rw [sf_eI_l e, nI_clamp (by omega), hs i e]
    have hin : vp_in (nI i) 3 := vp_in_nI e (by omega)
    have t := (sf_ex_t (f i) (hf i)).2.1
    have t2 := (sf_ex_n (f i) (hf i) n hn).2
    have g1 : (f i = 0 ∨ f i = n) → ∀ p, p < 3 → upd b_spans i (nI n) p = sf_ey (sf_as f i n p) := by
      intro w p hp
      by_cases e2 : p = i
      · subst e2
        rw [pk_us, sf_as_e w, sf_ey_l (by omega)]
      · rw [pk_un e2, sf_as_n e2]
        exact hs p hp
    refine And.intro hin (br_c (fun w => And.intro hin (nm_e (h _ (g1 (Or.inl (t.mp w)))))) (fun w => And.intro hin (br_c (fun w2 => And.intro hin (nm_e (h _ (g1 (Or.inr (t2.mp w2)))))) (fun w2 => And.intro hin (nm_e (h _ (fun p hp => ?_)))))))
    by_cases e2 : p = i
    · subst e2
      rw [pk_us, sf_as_7 (fun w3 => w3.elim (fun a => w (t.mpr a)) (fun a => w2 (t2.mpr a)))]
      rfl
    · rw [pk_un e2, sf_as_n e2]
      exact hs p hp
theorem sf_yfs50 {post : SY → Prop} {P A fr : Nat} {kd ar sz ia ib NN MM : Nat → Nat} {xk xn xA xB xA2 xB2 : Nat → Int32} (D : sf_PD P A kd ar sz xk xn xA xB b_kinds b_numbers b_sizes) (hP : P ≤ 20) (hA : A ≤ 6)
    (IX : sf_IX A ia ib xA2 xB2 b_firsts b_seconds) (DM : sf_DM A NN MM b_rows b_widths) (DB : sf_DB A NN MM ia ib)
    (h : ∀ sp : Nat → Int32, (∀ p, p < 3 → sp p = sf_ey (sf_sf kd ar ia ib NN MM fr P p)) → post ((nI P), g_arrays, g_depth, b_ranks, b_rows, b_widths, b_formats, b_cells, b_kinds, b_numbers, b_sizes, b_values, b_firsts, b_seconds, b_at, sp)) :
    ∀ d k sp, k + d = P → fr ≤ k → (∀ p, p < 3 → sp p = sf_ey (sf_sf kd ar ia ib NN MM fr k p)) → wY_findSpans_50 post (d + 1) (nI k) (nI P) g_arrays g_depth b_ranks b_rows b_widths b_formats b_cells b_kinds b_numbers b_sizes b_values b_firsts b_seconds b_at sp := by
  have hle := sf_sf_le (kd := kd) (ar := ar) (ia := ia) (ib := ib) (NN := NN) (MM := MM) (fr := fr) (A := A) (P := P) (fun a ha => ⟨(DB a ha).2.1, (DB a ha).2.2.2.1⟩) (fun k hk h1 => by
    obtain ⟨_, _, _, d4⟩ := D k hk
    rcases d4 with ⟨e0, _⟩ | ⟨e0, e1, _⟩ | ⟨e0, _⟩ | ⟨e0, _⟩
    · omega
    · exact e1
    · omega
    · omega)
  intro d
  induction d with
  | zero =>
    intro k sp hk hf hs
    have e : k = P := by omega
    subst e
    exact br_t (nI_le (Nat.le_refl _) (by omega)) (h sp hs)
  | succ d ih =>
    intro k sp hk hf hs
    have hi : vp_in (nI k) 20 := vp_in_nI (by omega) (by omega)
    have hc : (nI k).toNatClampNeg = k := nI_clamp (by omega)
    obtain ⟨d1, d2, d3, d4⟩ := D k (by omega)
    refine br_f (nI_ge (by omega) (by omega)) (And.intro hi ?_)
    rw [hc, d2]
    refine pk_eq (kd k) 1 (fun e => And.intro hi ?_) (fun e => nm_r (nI_1 k) (ih (k + 1) sp (by omega) (by omega) ?_))
    · rcases d4 with ⟨e0, _⟩ | ⟨e0, e1, e2, e3, _⟩ | ⟨e0, _⟩ | ⟨e0, _⟩
      · omega
      · have b := DB _ e1
        have x := IX _ e1
        have m := DM _ e1
        have hb : vp_in (nI (6 + ar k)) 13 := vp_in_nI (by omega) (by omega)
        rw [e3, nI_clamp (by omega), x.2.2.1, m.1]
        refine And.intro hb (And.intro hi (And.intro hb (sf_note b.2.2.2.2.1 b.2.1 (hle k (by omega)) hs (fun sp2 hs2 => ?_))))
        dsimp only
        rw [e3, nI_clamp (by omega), x.2.2.2, m.2]
        refine And.intro hi (And.intro hb (And.intro hi (And.intro hb (sf_note b.2.2.2.2.2 b.2.2.2.1 (sf_as_le b.2.1 (hle k (by omega))) hs2 (fun sp3 hs3 => nm_r (nI_1 k) (ih (k + 1) sp3 (by omega) (by omega) ?_))))))
        rw [sf_sf_t hf e]
        exact hs3
      · omega
      · omega
    · rw [sf_sf_f (fun w => e w.2)]
      exact hs
theorem sf_yfs2 {post : SY → Prop} (h : ∀ sp : Nat → Int32, (∀ p, p < 3 → sp p = 0) → ((g_parts = 0 → (∃ n50 : Nat, wY_findSpans_50 post n50 0 g_parts g_arrays g_depth b_ranks b_rows b_widths b_formats b_cells b_kinds b_numbers b_sizes b_values b_firsts b_seconds b_at sp)) ∧ (¬ g_parts = 0 → (vp_in (g_parts - 1) 20 ∧ (∀ x1_4 : Int32, x1_4 = g_parts - (b_sizes (g_parts - 1).toNatClampNeg) → (∃ n50 : Nat, wY_findSpans_50 post n50 x1_4 g_parts g_arrays g_depth b_ranks b_rows b_widths b_formats b_cells b_kinds b_numbers b_sizes b_values b_firsts b_seconds b_at sp)))))) :
    ∀ (d k : Nat) (sp : Nat → Int32), k + d = 3 → (∀ p, p < k → sp p = 0) → wY_findSpans_2 post g_parts g_arrays g_depth (d + 1) (nI k) b_ranks b_rows b_widths b_formats b_cells b_kinds b_numbers b_sizes b_values b_firsts b_seconds b_at sp := by
  intro d
  induction d with
  | zero =>
    intro k sp hk hs
    have e : k = 3 := by omega
    subst e
    exact br_t (nI_le (a := 3) (b := 3) (by omega) (by omega)) (h sp hs)
  | succ d ih =>
    intro k sp hk hs
    refine br_f (nI_ge (a := k) (b := 3) (by omega) (by omega)) (And.intro (vp_in_nI (by omega) (by omega)) ?_)
    rw [nI_clamp (by omega)]
    refine nm_e (nm_r (nI_1 k) (ih (k + 1) _ (by omega) (fun p hp => ?_)))
    by_cases e : p = k
    · rw [e, pk_us]
    · rw [pk_un e]
      exact hs p (by omega)
theorem sf_yspans {post : SY → Prop} {P A : Nat} {kd ar sz ia ib NN MM : Nat → Nat} {xk xn xA xB xA2 xB2 : Nat → Int32} (T : sf_TR P kd sz) (D : sf_PD P A kd ar sz xk xn xA xB b_kinds b_numbers b_sizes) (hP : P ≤ 20) (hA : A ≤ 6)
    (IX : sf_IX A ia ib xA2 xB2 b_firsts b_seconds) (DM : sf_DM A NN MM b_rows b_widths) (DB : sf_DB A NN MM ia ib)
    (h : ∀ sp : Nat → Int32, (∀ p, p < 3 → sp p = sf_ey (sf_sf kd ar ia ib NN MM (P - sz (P - 1)) P p)) → post ((nI P), g_arrays, g_depth, b_ranks, b_rows, b_widths, b_formats, b_cells, b_kinds, b_numbers, b_sizes, b_values, b_firsts, b_seconds, b_at, sp)) : wpY_findSpans post ((nI P), g_arrays, g_depth, b_ranks, b_rows, b_widths, b_formats, b_cells, b_kinds, b_numbers, b_sizes, b_values, b_firsts, b_seconds, b_at, b_spans) := by
  unfold wpY_findSpans
  refine ⟨4, sf_yfs2 (fun sp hs => pk_eq P 0 (fun e => ⟨1, ?_⟩) (fun e => ?_)) 3 0 _ rfl (fun p hp => absurd hp (Nat.not_lt_zero p))⟩
  · subst e
    exact br_t (nI_le (a := 0) (b := 0) (by omega) (by omega)) (h sp (fun p hp => hs p hp))
  · have e1 : nI P - 1 = nI (P - 1) := by
      rw [show (1 : Int32) = nI 1 from rfl, pk_sub (by omega)]
    obtain ⟨t1, t2, t3⟩ := T (P - 1) (by omega)
    have d3 := (D (P - 1) (by omega)).2.2.1
    rw [e1, nI_clamp (by omega), d3, pk_sub (by omega)]
    refine And.intro (vp_in_nI (by omega) (by omega)) (nm_e ⟨sz (P - 1) + 1, ?_⟩)
    refine sf_yfs50 D hP hA IX DM DB h (sz (P - 1)) (P - sz (P - 1)) sp (by omega) (Nat.le_refl _) (fun p hp => ?_)
    rw [sf_sf_0 _ (Nat.le_refl _)]
    exact hs p hp
end
section
variable {f_parts f_arrays f_height f_loops : Int32} {a_rankOf a_rows a_columns a_formatOf a_lines a_lineAt a_lineBegin a_placeAt a_numberAt a_kind a_number a_partA a_partB a_indexA a_indexB a_stack a_inside a_plain a_loopIndex a_spanOf a_lineIndex a_placeIndex a_atLine a_atPlace a_support a_value a_now a_left : Nat → Int32} {g_parts g_arrays g_depth : Int32} {b_ranks b_rows b_widths b_formats b_cells b_kinds b_numbers b_sizes b_values b_firsts b_seconds b_at b_spans : Nat → Int32} {P A H : Nat} {kd ar sz bo ia ib : Nat → Nat}
theorem sf_Rl_dm (I : sf_Rl P A H kd ar sz bo ia ib a_rankOf a_rows a_columns a_formatOf a_lines a_lineAt a_lineBegin a_placeAt a_numberAt a_kind a_number a_partA a_partB a_indexA a_indexB a_stack b_ranks b_rows b_widths b_formats b_cells b_kinds b_numbers b_sizes b_firsts b_seconds) : ∃ NN MM : Nat → Nat, sf_DM A NN MM a_rows a_columns ∧ sf_DM A NN MM b_rows b_widths ∧ sf_DB A NN MM ia ib := by
  refine ⟨fun a => (b_rows (6 + a)).toNatClampNeg, fun a => (b_widths (6 + a)).toNatClampNeg, fun a ha => ?_, fun a ha => ?_, fun a ha => ?_⟩
  · obtain ⟨R, N, M, F, X, HY, Z, D⟩ := I.2.1 a ha
    have hb := sf_shb HY.2.2.2.2
    dsimp only
    rw [HY.2.1, HY.2.2.1, nI_clamp (by omega), nI_clamp (by omega)]
    exact ⟨X.1.2.1, X.1.2.2.1⟩
  · obtain ⟨R, N, M, F, X, HY, Z, D⟩ := I.2.1 a ha
    have hb := sf_shb HY.2.2.2.2
    dsimp only
    rw [HY.2.1, HY.2.2.1, nI_clamp (by omega), nI_clamp (by omega)]
    exact ⟨rfl, rfl⟩
  · obtain ⟨R, N, M, F, X, HY, Z, D⟩ := I.2.1 a ha
    have hb := sf_shb HY.2.2.2.2
    dsimp only
    rw [HY.2.1, HY.2.2.1, nI_clamp (by omega), nI_clamp (by omega)]
    unfold sf_IR at D
    omega
end
theorem i_vc_span {k : Nat} {u : SX} {v : SY} (I : i_Rel k u v) (hk : k + 5 ≤ 2560) (v1 : Int32) : wpX_span (fun r u' => wpY_span (fun r' v' => r' = r ∧ i_Rel (k + 5) u' v') v v1) u v1 := by
  refine sf_el (Q := fun u v => wpX_span (fun r u' => wpY_span (fun r' v' => r' = r ∧ i_Rel (k + 5) u' v') v v1) u v1) ?_ I
  clear I u v
  intro P A H kd ar sz bo ia ib f_loops a_rankOf a_rows a_columns a_formatOf a_lines a_lineAt a_lineBegin a_placeAt a_numberAt a_kind a_number a_partA a_partB a_indexA a_indexB a_stack a_inside a_plain a_loopIndex a_spanOf a_lineIndex a_placeIndex a_atLine a_atPlace a_support a_value a_now a_left b_ranks b_rows b_widths b_formats b_cells b_kinds b_numbers b_sizes b_values b_firsts b_seconds b_at b_spans I
  have hb := I.2.2.2.1
  obtain ⟨NN, MM, DX, DY, DB⟩ := sf_Rl_dm I
  unfold wpX_span wpY_span
  dsimp only
  refine br_c (fun a => br_t a ⟨rfl, sf_in I⟩) (fun a => br_c (fun b => ?_) (fun b => br_f a (br_f b ⟨rfl, sf_in I⟩)))
  obtain ⟨p, hp, rfl⟩ := nI_of2 (M := 2) (n := 2) (by decide) a b
  have hin : vp_in (nI p) 3 := vp_in_nI (by omega) (by omega)
  have hc : (nI p).toNatClampNeg = p := nI_clamp (by omega)
  have ha1 : ∀ k, k < P → kd k = 1 → ar k < A := by
    intro k hk h1
    obtain ⟨_, _, _, d4⟩ := I.2.2.2.2.2.1 k hk
    rcases d4 with ⟨e0, _⟩ | ⟨e0, e1, _⟩ | ⟨e0, _⟩ | ⟨e0, _⟩
    · omega
    · exact e1
    · omega
    · omega
  have hle := sf_sf_le (kd := kd) (ar := ar) (ia := ia) (ib := ib) (NN := NN) (MM := MM) (fr := P - sz (P - 1)) (A := A) (P := P) (fun a ha => ⟨(DB a ha).2.1, (DB a ha).2.2.2.1⟩) ha1 P (Nat.le_refl _) p
  rw [hc]
  by_cases hH : H = 0
  · subst hH
    have hP : P = 0 := by
      obtain ⟨s1, s2, s3⟩ := I.2.2.2.2.2.2.1
      omega
    subst hP
    refine br_t rfl (br_f a (br_t b (sf_yspans I.2.2.2.2.1 I.2.2.2.2.2.1 hb.1 hb.2.1 I.2.2.1 DY DB (fun sp hs => And.intro hin (br_t ?_ ⟨rfl, sf_in I⟩)))))
    exact hs p (by omega)
  · have hST := sf_ST_neg (by omega) I.2.2.2.2.2.2.1
    have e3 : nI H - 1 = nI (H - 1) := by
      rw [show (1 : Int32) = nI 1 from rfl, pk_sub (by omega)]
    rw [e3, nI_clamp (n := H - 1) (by omega), hST.2.1]
    refine br_f (sf_ne20 (n := 0) (by omega) (by omega) hH) (And.intro (vp_in_nI (by omega) (by omega)) (sf_xspans I.2.2.2.2.1 I.2.2.2.2.2.1 hb.1 hST.1 hb.2.1 I.2.2.1 DX DB (fun ins sp hins hs => ?_)))
    dsimp only
    rw [hs p (by omega)]
    have t := sf_ex_t _ hle
    refine And.intro hin (br_c (fun w => ?_) (fun w => And.intro hin ?_))
    · refine br_f a (br_t b (sf_yspans I.2.2.2.2.1 I.2.2.2.2.2.1 hb.1 hb.2.1 I.2.2.1 DY DB (fun sp2 hs2 => And.intro hin (br_t ?_ ⟨rfl, sf_in I⟩))))
      exact (hs2 p (by omega)).trans (t.2.1.mpr (t.1.mp w))
    · refine br_f a (br_t b (sf_yspans I.2.2.2.2.1 I.2.2.2.2.2.1 hb.1 hb.2.1 I.2.2.1 DY DB (fun sp2 hs2 => And.intro hin ?_)))
      dsimp only
      rw [hs2 p (by omega)]
      refine br_f (fun w2 => w (t.1.mpr (t.2.1.mp w2))) (And.intro hin ?_)
      by_cases w7 : sf_sf kd ar ia ib NN MM (P - sz (P - 1)) P p = 7
      · refine br_f (fun w3 => t.2.2.2.2.1.mp w3 w7) ⟨?_, sf_in I⟩
        rw [w7]
        rfl
      · refine br_t (t.2.2.2.2.1.mpr w7) (And.intro hin ⟨?_, sf_in I⟩)
        rw [sf_ex_l w7, sf_ey_l w7]
end
section
/-! the order of loops -/
def sf_LV (R F i j li pi : Nat) : Prop := (R < 2 ∧ li = 3 ∧ pi = i) ∨ (R = 2 ∧ F < 4 ∧ li = i ∧ pi = j) ∨ (R = 2 ∧ 4 ≤ F ∧ li = j ∧ pi = i)
section
variable {f_parts f_arrays f_height f_loops : Int32} {a_rankOf a_rows a_columns a_formatOf a_lines a_lineAt a_lineBegin a_placeAt a_numberAt a_kind a_number a_partA a_partB a_indexA a_indexB a_stack a_inside a_plain a_loopIndex a_spanOf a_lineIndex a_placeIndex a_atLine a_atPlace a_support a_value a_now a_left : Nat → Int32}
theorem sf_levels {post : SX → Prop} {a R N M F i j : Nat} (ha : a < 6) (H : sf_HD (6 + a) a_rankOf a_rows a_columns a_formatOf R N M F) (ei : a_indexA a = sf_eI i) (ej : a_indexB a = sf_eI j)
    (h : ∀ li pi, sf_LV R F i j li pi → post (f_parts, f_arrays, f_height, f_loops, a_rankOf, a_rows, a_columns, a_formatOf, a_lines, a_lineAt, a_lineBegin, a_placeAt, a_numberAt, a_kind, a_number, a_partA, a_partB, a_indexA, a_indexB, a_stack, a_inside, a_plain, a_loopIndex, a_spanOf, (upd a_lineIndex a (sf_eI li)), (upd a_placeIndex a (sf_eI pi)), a_atLine, a_atPlace, a_support, a_value, a_now, a_left)) : wpX_findLevels post (f_parts, f_arrays, f_height, f_loops, a_rankOf, a_rows, a_columns, a_formatOf, a_lines, a_lineAt, a_lineBegin, a_placeAt, a_numberAt, a_kind, a_number, a_partA, a_partB, a_indexA, a_indexB, a_stack, a_inside, a_plain, a_loopIndex, a_spanOf, a_lineIndex, a_placeIndex, a_atLine, a_atPlace, a_support, a_value, a_now, a_left) (nI a) := by
  have hb := sf_shb H.2.2.2.2
  have hca : (nI a).toNatClampNeg = a := nI_clamp (by omega)
  have hc6 : (nI (6 + a)).toNatClampNeg = 6 + a := nI_clamp (by omega)
  have hi6 : vp_in (nI a) 6 := vp_in_nI ha (by omega)
  have hi13 : vp_in (nI (6 + a)) 13 := vp_in_nI (by omega) (by omega)
  unfold wpX_findLevels
  dsimp only
  refine nm_r (sf_a6 a) ?_
  rw [hc6, hca, H.1, ei, ej]
  refine sf_isTurned (by omega) H (fun b1 b2 => ?_) (fun b => ?_)
  · refine And.intro hi13 (br_t (nI_le (a := 2) (by omega) (by omega)) (br_f (by decide) (And.intro hi6 ?_)))
    unfold wX_findLevels_49
    rw [hca, hc6, H.1, ei, ej]
    exact ⟨hi6, nm_e ⟨hi13, br_f (nI_nlt (b := 2) (by omega) (by omega)) (br_f (by decide) ⟨hi6, hi6, nm_e (h j i (Or.inr (Or.inr ⟨b1, b2, rfl, rfl⟩)))⟩)⟩⟩
  · by_cases r : R = 2
    · refine And.intro hi13 (br_t (nI_le (a := 2) (by omega) (by omega)) (br_t rfl (And.intro hi6 ?_)))
      unfold wX_findLevels_49
      rw [hca, hc6, H.1, ei, ej]
      exact ⟨hi6, nm_e ⟨hi13, br_f (nI_nlt (b := 2) (by omega) (by omega)) (br_t rfl ⟨hi6, hi6, nm_e (h i j (Or.inr (Or.inl ⟨r, by omega, rfl, rfl⟩)))⟩)⟩⟩
    · refine And.intro hi13 (br_f (nI_ge (b := 2) (by omega) (by omega)) ?_)
      unfold wX_findLevels_49
      rw [hca, hc6, H.1, ei, ej]
      exact ⟨hi6, nm_e ⟨hi13, br_t (nI_lt (b := 2) (by omega) (by omega)) ⟨hi6, hi6, nm_e (h 3 i (Or.inl ⟨by omega, rfl, rfl⟩))⟩⟩⟩
end
/-- an array, its levels known -/
def sf_AL (a i j N M : Nat) (qk qr qc qf ql qa qb qp qn xl xp c : Nat → Int32) (O : Nat → Nat → Prop) : Prop := ∃ R F li pi, sf_XS (6 + a) qk qr qc qf ql qa qb qp qn R N M F c ∧ sf_IR R i j ∧ sf_LV R F i j li pi ∧ xl a = sf_eI li ∧ xp a = sf_eI pi ∧ O li pi
section
variable {f_parts f_arrays f_height f_loops : Int32} {a_rankOf a_rows a_columns a_formatOf a_lines a_lineAt a_lineBegin a_placeAt a_numberAt a_kind a_number a_partA a_partB a_indexA a_indexB a_stack a_inside a_plain a_loopIndex a_spanOf a_lineIndex a_placeIndex a_atLine a_atPlace a_support a_value a_now a_left : Nat → Int32}
theorem sf_co2 {post : SX → Prop} {A : Nat} {ia ib NN MM : Nat → Nat} {c : Nat → Nat → Int32} {yA yB : Nat → Int32} (hA : A ≤ 6) (IX : sf_IX A ia ib a_indexA a_indexB yA yB) (HX : ∀ a, a < A → ∃ R F, sf_XS (6 + a) a_rankOf a_rows a_columns a_formatOf a_lines a_lineAt a_lineBegin a_placeAt a_numberAt R (NN a) (MM a) F (c a) ∧ sf_IR R (ia a) (ib a))
    (h : ∀ xl xp : Nat → Int32, (∀ a, a < A → sf_AL a (ia a) (ib a) (NN a) (MM a) a_rankOf a_rows a_columns a_formatOf a_lines a_lineAt a_lineBegin a_placeAt a_numberAt xl xp (c a) (fun _ _ => True)) → ∃ n26 : Nat, wX_chooseOrder_26 post f_parts (nI A) f_height f_loops n26 100 0 a_rankOf a_rows a_columns a_formatOf a_lines a_lineAt a_lineBegin a_placeAt a_numberAt a_kind a_number a_partA a_partB a_indexA a_indexB a_stack a_inside a_plain a_loopIndex a_spanOf xl xp a_atLine a_atPlace a_support a_value a_now a_left) :
    ∀ d k xl xp, k + d = A → (∀ a, a < k → sf_AL a (ia a) (ib a) (NN a) (MM a) a_rankOf a_rows a_columns a_formatOf a_lines a_lineAt a_lineBegin a_placeAt a_numberAt xl xp (c a) (fun _ _ => True)) → wX_chooseOrder_2 post (d + 1) (nI k) f_parts (nI A) f_height f_loops a_rankOf a_rows a_columns a_formatOf a_lines a_lineAt a_lineBegin a_placeAt a_numberAt a_kind a_number a_partA a_partB a_indexA a_indexB a_stack a_inside a_plain a_loopIndex a_spanOf xl xp a_atLine a_atPlace a_support a_value a_now a_left := by
  intro d
  induction d with
  | zero =>
    intro k xl xp hk hq
    have e : k = A := by omega
    subst e
    exact br_t (nI_le (Nat.le_refl _) (by omega)) (h xl xp hq)
  | succ d ih =>
    intro k xl xp hk hq
    obtain ⟨R, F, X, D⟩ := HX k (by omega)
    have x := IX k (by omega)
    refine br_f (nI_ge (by omega) (by omega)) (sf_levels (by omega) X.1 x.1 x.2.1 (fun li pi V => nm_r (nI_1 k) (ih (k + 1) _ _ (by omega) (fun a ha => ?_))))
    by_cases e : a = k
    · subst e
      exact ⟨R, F, li, pi, X, D, V, pk_us, pk_us, trivial⟩
    · obtain ⟨R', F', li', pi', X', D', V', e1, e2, _⟩ := hq a (by omega)
      exact ⟨R', F', li', pi', X', D', V', (pk_un e).trans e1, (pk_un e).trans e2, trivial⟩
theorem sf_against_l {post : Int32 → Prop} {A : Nat} {v1 v2 : Int32} (hA : A ≤ 6) (h : ∀ n, n ≤ 6 → post (nI n)) :
    ∀ d k n, k + d = A → n ≤ k → wX_against_6 post v1 v2 f_parts (nI A) f_height f_loops a_rankOf a_rows a_columns a_formatOf a_lines a_lineAt a_lineBegin a_placeAt a_numberAt a_kind a_number a_partA a_partB a_indexA a_indexB a_stack a_inside a_plain a_loopIndex a_spanOf a_lineIndex a_placeIndex a_atLine a_atPlace a_support a_value a_now a_left (d + 1) (nI n) (nI k) := by
  intro d
  induction d with
  | zero =>
    intro k n hk hn
    have e : k = A := by omega
    subst e
    exact br_t (nI_le (Nat.le_refl _) (by omega)) (h n (by omega))
  | succ d ih =>
    intro k n hk hn
    have hi6 : vp_in (nI k) 6 := vp_in_nI (by omega) (by omega)
    have k90 : ∀ x6 z0, wX_against_90 post (wX_against_6 post v1 v2 f_parts (nI A) f_height f_loops a_rankOf a_rows a_columns a_formatOf a_lines a_lineAt a_lineBegin a_placeAt a_numberAt a_kind a_number a_partA a_partB a_indexA a_indexB a_stack a_inside a_plain a_loopIndex a_spanOf a_lineIndex a_placeIndex a_atLine a_atPlace a_support a_value a_now a_left (d + 1)) v1 v2 (nI n) (nI k) x6 z0 f_parts (nI A) f_height f_loops a_rankOf a_rows a_columns a_formatOf a_lines a_lineAt a_lineBegin a_placeAt a_numberAt a_kind a_number a_partA a_partB a_indexA a_indexB a_stack a_inside a_plain a_loopIndex a_spanOf a_lineIndex a_placeIndex a_atLine a_atPlace a_support a_value a_now a_left := fun x6 z0 =>
      br_c (fun _ => nm_r (nI_1 k) (ih (k + 1) n (by omega) (by omega))) (fun _ => nm_r (nI_1 n) (nm_r (nI_1 k) (ih (k + 1) (n + 1) (by omega) (by omega))))
    have k57 : ∀ z0, wX_against_57 post (wX_against_6 post v1 v2 f_parts (nI A) f_height f_loops a_rankOf a_rows a_columns a_formatOf a_lines a_lineAt a_lineBegin a_placeAt a_numberAt a_kind a_number a_partA a_partB a_indexA a_indexB a_stack a_inside a_plain a_loopIndex a_spanOf a_lineIndex a_placeIndex a_atLine a_atPlace a_support a_value a_now a_left (d + 1)) v1 v2 (nI n) (nI k) z0 f_parts (nI A) f_height f_loops a_rankOf a_rows a_columns a_formatOf a_lines a_lineAt a_lineBegin a_placeAt a_numberAt a_kind a_number a_partA a_partB a_indexA a_indexB a_stack a_inside a_plain a_loopIndex a_spanOf a_lineIndex a_placeIndex a_atLine a_atPlace a_support a_value a_now a_left := fun z0 =>
      And.intro hi6 (br_c (fun _ => k90 _ _) (fun _ => And.intro hi6 (br_c (fun _ => k90 _ _) (fun _ => k90 _ _))))
    exact br_f (nI_ge (by omega) (by omega)) (And.intro hi6 (br_c (fun _ => nm_r (nI_1 k) (ih (k + 1) n (by omega) (by omega))) (fun _ => And.intro hi6 (br_c (fun _ => k57 _) (fun _ => And.intro hi6 (br_c (fun _ => k57 _) (fun _ => k57 _)))))))
theorem sf_against {post : Int32 → Prop} {A : Nat} {v1 v2 v3 : Int32} (hA : A ≤ 6) (h : ∀ n, n ≤ 6 → post (nI n)) : wpX_against post (f_parts, (nI A), f_height, f_loops, a_rankOf, a_rows, a_columns, a_formatOf, a_lines, a_lineAt, a_lineBegin, a_placeAt, a_numberAt, a_kind, a_number, a_partA, a_partB, a_indexA, a_indexB, a_stack, a_inside, a_plain, a_loopIndex, a_spanOf, a_lineIndex, a_placeIndex, a_atLine, a_atPlace, a_support, a_value, a_now, a_left) v1 v2 v3 := by
  unfold wpX_against
  exact ⟨A + 1, sf_against_l hA h A 0 0 (Nat.zero_add _) (Nat.le_refl _)⟩
end
/-- a permutation of the three indices -/
def sf_pm (a b c : Int32) : Bool := (decide (a = 0) && decide (b = 1) && decide (c = 2)) || (decide (a = 0) && decide (b = 2) && decide (c = 1)) || (decide (a = 1) && decide (b = 0) && decide (c = 2)) || (decide (a = 1) && decide (b = 2) && decide (c = 0)) || (decide (a = 2) && decide (b = 0) && decide (c = 1)) || (decide (a = 2) && decide (b = 1) && decide (c = 0))
theorem sf_pm0 : ∀ k, k < 6 → nI k - nI k / 2 * 2 = 0 → sf_pm (nI k / 2) ((nI k / 2 + 1) - (nI k / 2 + 1) / 3 * 3) ((3 - nI k / 2) - ((nI k / 2 + 1) - (nI k / 2 + 1) / 3 * 3)) = true := by decide +kernel
theorem sf_pm1 : ∀ k, k < 6 → ¬ nI k - nI k / 2 * 2 = 0 → sf_pm (nI k / 2) ((nI k / 2 + 2) - (nI k / 2 + 2) / 3 * 3) ((3 - nI k / 2) - ((nI k / 2 + 2) - (nI k / 2 + 2) / 3 * 3)) = true := by decide +kernel
theorem sf_pm_ex {a b c : Int32} (h : sf_pm a b c = true) : ∃ o : Nat → Nat, a = nI (o 0) ∧ b = nI (o 1) ∧ c = nI (o 2) ∧ o 0 < 3 ∧ o 1 < 3 ∧ o 2 < 3 ∧ o 0 ≠ o 1 ∧ o 0 ≠ o 2 ∧ o 1 ≠ o 2 := by
  have mk : ∀ x y z : Nat, x < 3 → y < 3 → z < 3 → x ≠ y → x ≠ z → y ≠ z → a = nI x → b = nI y → c = nI z → ∃ o : Nat → Nat, a = nI (o 0) ∧ b = nI (o 1) ∧ c = nI (o 2) ∧ o 0 < 3 ∧ o 1 < 3 ∧ o 2 < 3 ∧ o 0 ≠ o 1 ∧ o 0 ≠ o 2 ∧ o 1 ≠ o 2 := by
    intro x y z h1 h2 h3 h4 h5 h6 e1 e2 e3
    refine ⟨fun d => if d = 0 then x else if d = 1 then y else z, ?_⟩
    exact ⟨e1, e2, e3, h1, h2, h3, h4, h5, h6⟩
  unfold sf_pm at h
  simp only [Bool.or_eq_true, Bool.and_eq_true, decide_eq_true_eq] at h
  rcases h with ((((⟨⟨e1, e2⟩, e3⟩ | ⟨⟨e1, e2⟩, e3⟩) | ⟨⟨e1, e2⟩, e3⟩) | ⟨⟨e1, e2⟩, e3⟩) | ⟨⟨e1, e2⟩, e3⟩) | ⟨⟨e1, e2⟩, e3⟩
  · exact mk 0 1 2 (by omega) (by omega) (by omega) (by omega) (by omega) (by omega) e1 e2 e3
  · exact mk 0 2 1 (by omega) (by omega) (by omega) (by omega) (by omega) (by omega) e1 e2 e3
  · exact mk 1 0 2 (by omega) (by omega) (by omega) (by omega) (by omega) (by omega) e1 e2 e3
  · exact mk 1 2 0 (by omega) (by omega) (by omega) (by omega) (by omega) (by omega) e1 e2 e3
  · exact mk 2 0 1 (by omega) (by omega) (by omega) (by omega) (by omega) (by omega) e1 e2 e3
  · exact mk 2 1 0 (by omega) (by omega) (by omega) (by omega) (by omega) (by omega) e1 e2 e3
section
variable {f_parts f_arrays f_height f_loops : Int32} {a_rankOf a_rows a_columns a_formatOf a_lines a_lineAt a_lineBegin a_placeAt a_numberAt a_kind a_number a_partA a_partB a_indexA a_indexB a_stack a_inside a_plain a_loopIndex a_spanOf a_lineIndex a_placeIndex a_atLine a_atPlace a_support a_value a_now a_left : Nat → Int32}
theorem sf_co26 {post : SX → Prop} {A : Nat} (hA : A ≤ 6) (h : ∀ lx : Nat → Int32, sf_pm (lx 0) (lx 1) (lx 2) = true → ∃ n116 : Nat, wX_chooseOrder_116 post n116 0 f_parts (nI A) f_height f_loops a_rankOf a_rows a_columns a_formatOf a_lines a_lineAt a_lineBegin a_placeAt a_numberAt a_kind a_number a_partA a_partB a_indexA a_indexB a_stack a_inside a_plain lx a_spanOf a_lineIndex a_placeIndex a_atLine a_atPlace a_support a_value a_now a_left) :
    ∀ d k best lx, k + d = 6 → ((k = 0 ∧ best = 100) ∨ sf_pm (lx 0) (lx 1) (lx 2) = true) → wX_chooseOrder_26 post f_parts (nI A) f_height f_loops (d + 1) best (nI k) a_rankOf a_rows a_columns a_formatOf a_lines a_lineAt a_lineBegin a_placeAt a_numberAt a_kind a_number a_partA a_partB a_indexA a_indexB a_stack a_inside a_plain lx a_spanOf a_lineIndex a_placeIndex a_atLine a_atPlace a_support a_value a_now a_left := by
  intro d
  induction d with
  | zero =>
    intro k best lx hk hq
    have e : k = 6 := by omega
    subst e
    refine br_t (nI_le (a := 6) (b := 6) (by omega) (by omega)) (h lx ?_)
    rcases hq with hq | hq
    · omega
    · exact hq
  | succ d ih =>
    intro k best lx hk hq
    have k55 : ∀ z0, sf_pm (nI k / 2) z0 ((3 - nI k / 2) - z0) = true → wX_chooseOrder_55 post (wX_chooseOrder_26 post f_parts (nI A) f_height f_loops (d + 1)) best (nI k) (nI k / 2) z0 f_parts (nI A) f_height f_loops a_rankOf a_rows a_columns a_formatOf a_lines a_lineAt a_lineBegin a_placeAt a_numberAt a_kind a_number a_partA a_partB a_indexA a_indexB a_stack a_inside a_plain lx a_spanOf a_lineIndex a_placeIndex a_atLine a_atPlace a_support a_value a_now a_left := by
      intro z0 hz
      unfold wX_chooseOrder_55
      refine nm_e (sf_against hA (fun n hn => br_c (fun w => nm_r (nI_1 k) (ih (k + 1) _ _ (by omega) ?_)) (fun w => nm_e (nm_e (nm_e (nm_r (nI_1 k) (ih (k + 1) _ _ (by omega) ?_)))))))
      · rcases hq with ⟨q1, q2⟩ | hq
        · rw [q2] at w
          exact absurd w (nI_ge (b := 100) (by omega) (by omega))
        · exact Or.inr hq
      · refine Or.inr ?_
        rw [show upd (upd (upd lx 0 (nI k / 2)) 1 z0) 2 ((3 - nI k / 2) - z0) 0 = nI k / 2 from rfl, show upd (upd (upd lx 0 (nI k / 2)) 1 z0) 2 ((3 - nI k / 2) - z0) 1 = z0 from rfl, show upd (upd (upd lx 0 (nI k / 2)) 1 z0) 2 ((3 - nI k / 2) - z0) 2 = ((3 - nI k / 2) - z0) from rfl]
        exact hz
    exact br_f (nI_ge (a := k) (b := 6) (by omega) (by omega)) (And.intro (by decide) (nm_e (And.intro (by decide) (br_c (fun w => And.intro (by decide) (k55 _ (sf_pm0 k (by omega) w))) (fun w => And.intro (by decide) (k55 _ (sf_pm1 k (by omega) w)))))))
/-- the place of an index in an order -/
def sf_od (o : Nat → Nat) (p : Nat) : Nat := if o 0 = p then 0 else if o 1 = p then 1 else 2
theorem sf_loopOf {post : Int32 → Prop} {o : Nat → Nat} {p : Nat} (hp : p < 3) (h0 : a_loopIndex 0 = nI (o 0)) (b0 : o 0 < 3) (h1 : o 0 = p ∨ (a_loopIndex 1 = nI (o 1) ∧ o 1 < 3)) (h : post (nI (sf_od o p))) : wpX_loopOf post (f_parts, f_arrays, f_height, f_loops, a_rankOf, a_rows, a_columns, a_formatOf, a_lines, a_lineAt, a_lineBegin, a_placeAt, a_numberAt, a_kind, a_number, a_partA, a_partB, a_indexA, a_indexB, a_stack, a_inside, a_plain, a_loopIndex, a_spanOf, a_lineIndex, a_placeIndex, a_atLine, a_atPlace, a_support, a_value, a_now, a_left) (nI p) := by
  unfold wpX_loopOf
  dsimp only
  unfold sf_od at h
  rw [h0]
  refine pk_eq (o 0) p (fun e => ?_) (fun e => ?_)
  · rw [if_pos e] at h
    exact h
  · rw [if_neg e] at h
    rcases h1 with h1 | ⟨h1, b1⟩
    · exact absurd h1 e
    · rw [h1]
      refine pk_eq (o 1) p (fun e2 => ?_) (fun e2 => ?_)
      · rw [if_pos e2] at h
        exact h
      · rw [if_neg e2] at h
        exact h
end
end
section
/-- the loops that stay -/
def sf_DO (o G : Nat → Nat) (k m : Nat) (w : Nat → Nat) : Prop := m ≤ k ∧ (∀ d, d < m → w d < k ∧ 0 < G (o (w d))) ∧ (∀ d e, d < e → e < m → w d < w e) ∧ (∀ j, j < k → 0 < G (o j) → ∃ d, d < m ∧ w d = j)
theorem sf_DO_0 (o G w : Nat → Nat) : sf_DO o G 0 0 w := ⟨Nat.le_refl _, fun d hd => absurd hd (Nat.not_lt_zero d), fun d e _ he => absurd he (Nat.not_lt_zero e), fun j hj => absurd hj (Nat.not_lt_zero j)⟩
theorem sf_DO_f {o G w : Nat → Nat} {k m : Nat} (h : sf_DO o G k m w) (z : G (o k) = 0) : sf_DO o G (k + 1) m w := by
  obtain ⟨h1, h2, h3, h4⟩ := h
  refine ⟨by omega, fun d hd => ⟨by have := (h2 d hd).1; omega, (h2 d hd).2⟩, h3, fun j hj hg => ?_⟩
  by_cases e : j = k
  · rw [e, z] at hg
    omega
  · exact h4 j (by omega) hg
theorem sf_DO_t {o G w : Nat → Nat} {k m : Nat} (h : sf_DO o G k m w) (z : 0 < G (o k)) : sf_DO o G (k + 1) (m + 1) (sf_un w m k) := by
  obtain ⟨h1, h2, h3, h4⟩ := h
  refine ⟨by omega, fun d hd => ?_, fun d e hde he => ?_, fun j hj hg => ?_⟩
  · by_cases e : d = m
    · rw [e, sf_us]
      exact ⟨by omega, z⟩
    · rw [sf_ue e]
      exact ⟨by have := (h2 d (by omega)).1; omega, (h2 d (by omega)).2⟩
  · by_cases e2 : e = m
    · rw [e2, sf_us, sf_ue (by omega)]
      exact (h2 d (by omega)).1
    · rw [sf_ue e2, sf_ue (by omega)]
      exact h3 d e hde (by omega)
  · by_cases e : j = k
    · exact ⟨m, by omega, sf_us.trans e.symm⟩
    · obtain ⟨d, d1, d2⟩ := h4 j (by omega) hg
      exact ⟨d, by omega, (sf_ue (by omega)).trans d2⟩
section
variable {f_parts f_arrays f_height f_loops : Int32} {a_rankOf a_rows a_columns a_formatOf a_lines a_lineAt a_lineBegin a_placeAt a_numberAt a_kind a_number a_partA a_partB a_indexA a_indexB a_stack a_inside a_plain a_loopIndex a_spanOf a_lineIndex a_placeIndex a_atLine a_atPlace a_support a_value a_now a_left : Nat → Int32}
theorem sf_drop_l {post : SX → Prop} {o G : Nat → Nat} (ho : ∀ d, d < 3 → o d < 3) (hG : ∀ p, p < 3 → G p ≤ 6) (hS : ∀ p, p < 3 → a_spanOf p = nI (G p))
    (h : ∀ m w lx, sf_DO o G 3 m w → (∀ d, d < m → lx d = nI (o (w d))) → post (f_parts, f_arrays, f_height, (nI m), a_rankOf, a_rows, a_columns, a_formatOf, a_lines, a_lineAt, a_lineBegin, a_placeAt, a_numberAt, a_kind, a_number, a_partA, a_partB, a_indexA, a_indexB, a_stack, a_inside, a_plain, lx, a_spanOf, a_lineIndex, a_placeIndex, a_atLine, a_atPlace, a_support, a_value, a_now, a_left)) :
    ∀ d k m w lx, k + d = 3 → sf_DO o G k m w → (∀ d, d < m → lx d = nI (o (w d))) → (∀ d, k ≤ d → d < 3 → lx d = nI (o d)) → wX_dropLoops_7 post f_parts f_arrays f_height (d + 1) (nI k) (nI m) a_rankOf a_rows a_columns a_formatOf a_lines a_lineAt a_lineBegin a_placeAt a_numberAt a_kind a_number a_partA a_partB a_indexA a_indexB a_stack a_inside a_plain lx a_spanOf a_lineIndex a_placeIndex a_atLine a_atPlace a_support a_value a_now a_left := by
  intro d
  induction d with
  | zero =>
    intro k m w lx hk D h1 h2
    have e : k = 3 := by omega
    subst e
    exact br_t (nI_le (a := 3) (b := 3) (by omega) (by omega)) (h m w lx D h1)
  | succ d ih =>
    intro k m w lx hk D h1 h2
    have hi : vp_in (nI k) 3 := vp_in_nI (by omega) (by omega)
    have hok := ho k (by omega)
    have hg := hG (o k) hok
    have hm := D.1
    refine br_f (nI_ge (a := k) (b := 3) (by omega) (by omega)) (And.intro hi ?_)
    rw [nI_clamp (n := k) (by omega), h2 k (Nat.le_refl _) (by omega), nI_clamp (n := o k) (by omega), hS (o k) hok]
    refine And.intro (vp_in_nI hok (by omega)) (pk_le (G (o k)) 0 (fun z => nm_r (nI_1 k) (ih (k + 1) m w lx (by omega) (sf_DO_f D (by omega)) h1 (fun d a b => h2 d (by omega) b))) (fun z => And.intro hi (And.intro (vp_in_nI (by omega) (by omega)) ?_)))
    rw [nI_clamp (by omega)]
    refine nm_e (nm_r (nI_1 m) (nm_r (nI_1 k) (ih (k + 1) (m + 1) _ _ (by omega) (sf_DO_t D z) (fun d hd => ?_) (fun d a b => ?_))))
    · by_cases e : d = m
      · rw [e, pk_us, sf_us]
      · rw [pk_un e, sf_ue e]
        exact h1 d (by omega)
    · rw [pk_un (by omega)]
      exact h2 d (by omega) b
theorem sf_drop {post : SX → Prop} {o G : Nat → Nat} (ho : ∀ d, d < 3 → o d < 3) (hG : ∀ p, p < 3 → G p ≤ 6) (hS : ∀ p, p < 3 → a_spanOf p = nI (G p)) (hl : ∀ d, d < 3 → a_loopIndex d = nI (o d))
    (h : ∀ m w lx, sf_DO o G 3 m w → (∀ d, d < m → lx d = nI (o (w d))) → post (f_parts, f_arrays, f_height, (nI m), a_rankOf, a_rows, a_columns, a_formatOf, a_lines, a_lineAt, a_lineBegin, a_placeAt, a_numberAt, a_kind, a_number, a_partA, a_partB, a_indexA, a_indexB, a_stack, a_inside, a_plain, lx, a_spanOf, a_lineIndex, a_placeIndex, a_atLine, a_atPlace, a_support, a_value, a_now, a_left)) : wpX_dropLoops post (f_parts, f_arrays, f_height, f_loops, a_rankOf, a_rows, a_columns, a_formatOf, a_lines, a_lineAt, a_lineBegin, a_placeAt, a_numberAt, a_kind, a_number, a_partA, a_partB, a_indexA, a_indexB, a_stack, a_inside, a_plain, a_loopIndex, a_spanOf, a_lineIndex, a_placeIndex, a_atLine, a_atPlace, a_support, a_value, a_now, a_left) := by
  unfold wpX_dropLoops
  exact ⟨4, sf_drop_l ho hG hS h 3 0 0 (fun _ => 0) _ rfl (sf_DO_0 o G _) (fun d hd => absurd hd (Nat.not_lt_zero d)) (fun d _ hd => hl d hd)⟩
theorem sf_repack {post : SX → Prop} {a N M F i j : Nat} {c : Nat → Int32} (ha : a < 6) (X : sf_XS (6 + a) a_rankOf a_rows a_columns a_formatOf a_lines a_lineAt a_lineBegin a_placeAt a_numberAt 2 N M F c) (Z : sf_Z N M c) (ei : a_indexA a = sf_eI i) (ej : a_indexB a = sf_eI j)
    (h : ∀ qk qr qc qf ql qa qb qp qn pl li pi, sf_Fr (6 + a) a_rankOf a_rows a_columns a_formatOf a_lines a_lineAt a_lineBegin a_placeAt a_numberAt qk qr qc qf ql qa qb qp qn → sf_XS (6 + a) qk qr qc qf ql qa qb qp qn 2 N M (sf_fx F) c → sf_LV 2 (sf_fx F) i j li pi → post (f_parts, f_arrays, f_height, f_loops, qk, qr, qc, qf, ql, qa, qb, qp, qn, a_kind, a_number, a_partA, a_partB, a_indexA, a_indexB, a_stack, a_inside, pl, a_loopIndex, a_spanOf, (upd a_lineIndex a (sf_eI li)), (upd a_placeIndex a (sf_eI pi)), a_atLine, a_atPlace, a_support, a_value, a_now, a_left)) : wpX_repack post (f_parts, f_arrays, f_height, f_loops, a_rankOf, a_rows, a_columns, a_formatOf, a_lines, a_lineAt, a_lineBegin, a_placeAt, a_numberAt, a_kind, a_number, a_partA, a_partB, a_indexA, a_indexB, a_stack, a_inside, a_plain, a_loopIndex, a_spanOf, a_lineIndex, a_placeIndex, a_atLine, a_atPlace, a_support, a_value, a_now, a_left) (nI a) := by
  have hb := sf_shb X.1.2.2.2.2
  have hc6 : (nI (6 + a)).toNatClampNeg = 6 + a := nI_clamp (by omega)
  have hi13 : vp_in (nI (6 + a)) 13 := vp_in_nI (by omega) (by omega)
  have hS : sf_Shp 2 N M (sf_fx F) := by
    have := sf_fxs F
    have hS0 := X.1.2.2.2.2
    unfold sf_Shp at hS0 ⊢
    omega
  unfold wpX_repack
  refine nm_r (sf_a6 a) ?_
  refine sf_unpack (by omega) X Z (fun pl hpl => ?_)
  dsimp only
  rw [hc6, X.1.2.1, X.1.2.2.1, X.1.2.2.2.1, sf_f4x (by omega)]
  exact ⟨hi13, hi13, hi13, sf_pack (R := 2) (by omega) hS hpl (fun qk qr qc qf ql qa qb qp qn FR X2 => sf_levels ha X2.1 ei ej (fun li pi V => h _ _ _ _ _ _ _ _ _ _ li pi FR X2 V))⟩
end
section
variable {f_parts f_arrays f_height f_loops : Int32} {a_rankOf a_rows a_columns a_formatOf a_lines a_lineAt a_lineBegin a_placeAt a_numberAt a_kind a_number a_partA a_partB a_indexA a_indexB a_stack a_inside a_plain a_loopIndex a_spanOf a_lineIndex a_placeIndex a_atLine a_atPlace a_support a_value a_now a_left : Nat → Int32} {ok or oc of ol oa ob op oq : Nat → Int32}
theorem sf_co116 {post : SX → Prop} {A : Nat} {ia ib NN MM G o : Nat → Nat} {c : Nat → Nat → Int32} {yA yB : Nat → Int32} (hA : A ≤ 6) (IX : sf_IX A ia ib a_indexA a_indexB yA yB) (HZ : ∀ a, a < A → sf_Z (NN a) (MM a) (c a))
    (ho : ∀ d, d < 3 → o d < 3) (hne : o 0 ≠ o 1 ∧ o 0 ≠ o 2 ∧ o 1 ≠ o 2) (hG : ∀ p, p < 3 → G p ≤ 6) (hS : ∀ p, p < 3 → a_spanOf p = nI (G p)) (hl : ∀ d, d < 3 → a_loopIndex d = nI (o d))
    (h : ∀ qk qr qc qf ql qa qb qp qn pl xl xp m w lx, sf_DO o G 3 m w → (∀ d, d < m → lx d = nI (o (w d))) → (∀ a, a < A → sf_AL a (ia a) (ib a) (NN a) (MM a) qk qr qc qf ql qa qb qp qn xl xp (c a) (fun li pi => li = 3 ∨ sf_od o li < sf_od o pi)) → (∀ t, t < 6 → sf_EQ t ok or oc of ol oa ob op oq qk qr qc qf ql qa qb qp qn) →
      post (f_parts, (nI A), f_height, (nI m), qk, qr, qc, qf, ql, qa, qb, qp, qn, a_kind, a_number, a_partA, a_partB, a_indexA, a_indexB, a_stack, a_inside, pl, lx, a_spanOf, xl, xp, a_atLine, a_atPlace, a_support, a_value, a_now, a_left)) :
    ∀ d k qk qr qc qf ql qa qb qp qn pl xl xp, k + d = A → (∀ a, a < k → sf_AL a (ia a) (ib a) (NN a) (MM a) qk qr qc qf ql qa qb qp qn xl xp (c a) (fun li pi => li = 3 ∨ sf_od o li < sf_od o pi)) → (∀ a, k ≤ a → a < A → sf_AL a (ia a) (ib a) (NN a) (MM a) qk qr qc qf ql qa qb qp qn xl xp (c a) (fun _ _ => True)) →
      (∀ t, t < 6 → sf_EQ t ok or oc of ol oa ob op oq qk qr qc qf ql qa qb qp qn) → wX_chooseOrder_116 post (d + 1) (nI k) f_parts (nI A) f_height f_loops qk qr qc qf ql qa qb qp qn a_kind a_number a_partA a_partB a_indexA a_indexB a_stack a_inside pl a_loopIndex a_spanOf xl xp a_atLine a_atPlace a_support a_value a_now a_left := by
  intro d
  induction d with
  | zero =>
    intro k qk qr qc qf ql qa qb qp qn pl xl xp hk h1 h2 h3
    have e : k = A := by omega
    subst e
    exact br_t (nI_le (Nat.le_refl _) (by omega)) (sf_drop ho hG hS hl (fun m w lx D hlx => h _ _ _ _ _ _ _ _ _ _ _ _ m w lx D hlx h1 h3))
  | succ d ih =>
    intro k qk qr qc qf ql qa qb qp qn pl xl xp hk h1 h2 h3
    obtain ⟨R, F, li, pi, X, D, V, e1, e2, _⟩ := h2 k (Nat.le_refl _) (by omega)
    have x := IX k (by omega)
    have hi6 : vp_in (nI k) 6 := vp_in_nI (by omega) (by omega)
    have hck : (nI k).toNatClampNeg = k := nI_clamp (by omega)
    have hli : li ≤ 3 := by
      unfold sf_IR at D
      unfold sf_LV at V
      omega
    have stay : (li = 3 ∨ sf_od o li < sf_od o pi) → wX_chooseOrder_116 post (d + 1) (nI (k + 1)) f_parts (nI A) f_height f_loops qk qr qc qf ql qa qb qp qn a_kind a_number a_partA a_partB a_indexA a_indexB a_stack a_inside pl a_loopIndex a_spanOf xl xp a_atLine a_atPlace a_support a_value a_now a_left := by
      intro hO
      refine ih (k + 1) _ _ _ _ _ _ _ _ _ _ _ _ (by omega) (fun a ha => ?_) (fun a ha hb => h2 a (by omega) hb) h3
      by_cases e : a = k
      · subst e
        exact ⟨R, F, li, pi, X, D, V, e1, e2, hO⟩
      · exact h1 a (by omega)
    refine br_f (nI_ge (by omega) (by omega)) (And.intro hi6 ?_)
    rw [hck, e1, e2]
    refine sf_pe hli (fun w => nm_r (nI_1 k) (stay (Or.inl w))) (fun w => And.intro hi6 ?_)
    have hR : R = 2 := by
      unfold sf_LV at V
      omega
    have hpi : pi < 3 ∧ li ≠ pi := by
      unfold sf_IR at D
      unfold sf_LV at V
      omega
    have odne : ∀ p q, p < 3 → q < 3 → p ≠ q → sf_od o p ≠ sf_od o q := by
      intro p q hp hq hpq
      have b0 := ho 0 (by omega)
      have b1 := ho 1 (by omega)
      have b2 := ho 2 (by omega)
      unfold sf_od
      by_cases a1 : o 0 = p
      · rw [if_pos a1, if_neg (by omega)]
        by_cases a2 : o 1 = q
        · rw [if_pos a2]
          omega
        · rw [if_neg a2]
          omega
      · rw [if_neg a1]
        by_cases a2 : o 0 = q
        · rw [if_pos a2]
          by_cases a3 : o 1 = p
          · rw [if_pos a3]
            omega
          · rw [if_neg a3]
            omega
        · rw [if_neg a2]
          by_cases a3 : o 1 = p
          · rw [if_pos a3, if_neg (by omega)]
            omega
          · rw [if_neg a3, if_pos (by omega)]
            omega
    have odl : ∀ p, sf_od o p ≤ 2 := by
      intro p
      unfold sf_od
      split
      · omega
      · split <;> omega
    have hod := odne li pi w hpi.1 hpi.2
    have l1 := odl li
    have l2 := odl pi
    subst hR
    rw [sf_eI_l hpi.1, sf_eI_l w]
    refine sf_loopOf hpi.1 (hl 0 (by omega)) (ho 0 (by omega)) (Or.inr ⟨hl 1 (by omega), ho 1 (by omega)⟩) (And.intro hi6 (sf_loopOf w (hl 0 (by omega)) (ho 0 (by omega)) (Or.inr ⟨hl 1 (by omega), ho 1 (by omega)⟩) (pk_le (sf_od o li) (sf_od o pi) (fun z => nm_r (nI_1 k) (stay (Or.inr (by omega)))) (fun z => sf_repack (by omega) X (HZ k (by omega)) x.1 x.2.1 (fun qk' qr' qc' qf' ql' qa' qb' qp' qn' pl' li' pi' FR X2 V2 => nm_r (nI_1 k) (ih (k + 1) _ _ _ _ _ _ _ _ _ _ _ _ (by omega) (fun a ha => ?_) (fun a ha hb => ?_) (fun t ht => ?_)))))))
    · by_cases e : a = k
      · subst e
        refine ⟨2, sf_fx F, li', pi', X2, D, V2, pk_us, pk_us, Or.inr ?_⟩
        have hfx := sf_fxs F
        have hF7 := sf_shb X.1.2.2.2.2
        have e3 : li' = pi ∧ pi' = li := by
          unfold sf_LV at V V2
          omega
        rw [e3.1, e3.2]
        omega
      · obtain ⟨R', F', l', p', X', D', V', f1, f2, O'⟩ := h1 a (by omega)
        exact ⟨R', F', l', p', sf_XS_tr X' (FR _ (by omega) (by omega)) (fun _ _ => rfl), D', V', (pk_un e).trans f1, (pk_un e).trans f2, O'⟩
    · have e : a ≠ k := by omega
      obtain ⟨R', F', l', p', X', D', V', f1, f2, O'⟩ := h2 a (by omega) hb
      exact ⟨R', F', l', p', sf_XS_tr X' (FR _ (by omega) (by omega)) (fun _ _ => rfl), D', V', (pk_un e).trans f1, (pk_un e).trans f2, O'⟩
    · have z1 := h3 t ht
      have z2 := FR t (by omega) (by omega)
      exact ⟨z2.1.trans z1.1, z2.2.1.trans z1.2.1, z2.2.2.1.trans z1.2.2.1, z2.2.2.2.1.trans z1.2.2.2.1, z2.2.2.2.2.1.trans z1.2.2.2.2.1, fun y hy => (z2.2.2.2.2.2.1 y hy).trans (z1.2.2.2.2.2.1 y hy), fun y hy => (z2.2.2.2.2.2.2.1 y hy).trans (z1.2.2.2.2.2.2.1 y hy), fun y hy => ⟨(z2.2.2.2.2.2.2.2 y hy).1.trans (z1.2.2.2.2.2.2.2 y hy).1, (z2.2.2.2.2.2.2.2 y hy).2.trans (z1.2.2.2.2.2.2.2 y hy).2⟩⟩
theorem sf_chooseOrder {post : SX → Prop} {A : Nat} {ia ib NN MM G : Nat → Nat} {c : Nat → Nat → Int32} {yA yB : Nat → Int32} (hA : A ≤ 6) (IX : sf_IX A ia ib a_indexA a_indexB yA yB) (HX : ∀ a, a < A → ∃ R F, sf_XS (6 + a) a_rankOf a_rows a_columns a_formatOf a_lines a_lineAt a_lineBegin a_placeAt a_numberAt R (NN a) (MM a) F (c a) ∧ sf_IR R (ia a) (ib a)) (HZ : ∀ a, a < A → sf_Z (NN a) (MM a) (c a))
    (hG : ∀ p, p < 3 → G p ≤ 6) (hS : ∀ p, p < 3 → a_spanOf p = nI (G p))
    (h : ∀ qk qr qc qf ql qa qb qp qn pl xl xp m w lx o, (o 0 < 3 ∧ o 1 < 3 ∧ o 2 < 3 ∧ o 0 ≠ o 1 ∧ o 0 ≠ o 2 ∧ o 1 ≠ o 2) → sf_DO o G 3 m w → (∀ d, d < m → lx d = nI (o (w d))) → (∀ a, a < A → sf_AL a (ia a) (ib a) (NN a) (MM a) qk qr qc qf ql qa qb qp qn xl xp (c a) (fun li pi => li = 3 ∨ sf_od o li < sf_od o pi)) → (∀ t, t < 6 → sf_EQ t a_rankOf a_rows a_columns a_formatOf a_lines a_lineAt a_lineBegin a_placeAt a_numberAt qk qr qc qf ql qa qb qp qn) →
      post (f_parts, (nI A), f_height, (nI m), qk, qr, qc, qf, ql, qa, qb, qp, qn, a_kind, a_number, a_partA, a_partB, a_indexA, a_indexB, a_stack, a_inside, pl, lx, a_spanOf, xl, xp, a_atLine, a_atPlace, a_support, a_value, a_now, a_left)) : wpX_chooseOrder post (f_parts, (nI A), f_height, f_loops, a_rankOf, a_rows, a_columns, a_formatOf, a_lines, a_lineAt, a_lineBegin, a_placeAt, a_numberAt, a_kind, a_number, a_partA, a_partB, a_indexA, a_indexB, a_stack, a_inside, a_plain, a_loopIndex, a_spanOf, a_lineIndex, a_placeIndex, a_atLine, a_atPlace, a_support, a_value, a_now, a_left) := by
  unfold wpX_chooseOrder
  refine ⟨A + 1, sf_co2 hA IX HX (fun xl xp hL => ⟨7, ?_⟩) A 0 _ _ (Nat.zero_add _) (fun a ha => absurd ha (Nat.not_lt_zero a))⟩
  refine sf_co26 hA (fun lx hpm => ⟨A + 1, ?_⟩) 6 0 100 _ rfl (Or.inl ⟨rfl, rfl⟩)
  obtain ⟨o, e0, e1, e2, b0, b1, b2, n1, n2, n3⟩ := sf_pm_ex hpm
  have hl : ∀ d, d < 3 → lx d = nI (o d) := by
    intro d hd
    rcases (by omega : d = 0 ∨ d = 1 ∨ d = 2) with e | e | e
    · rw [e]
      exact e0
    · rw [e]
      exact e1
    · rw [e]
      exact e2
  have ho : ∀ d, d < 3 → o d < 3 := by
    intro d hd
    rcases (by omega : d = 0 ∨ d = 1 ∨ d = 2) with e | e | e
    · rw [e]
      exact b0
    · rw [e]
      exact b1
    · rw [e]
      exact b2
  exact sf_co116 hA IX HZ ho ⟨n1, n2, n3⟩ hG hS hl (fun qk qr qc qf ql qa qb qp qn pl xl xp m w lx D hlx hAL hE => h _ _ _ _ _ _ _ _ _ _ _ _ m w lx o ⟨b0, b1, b2, n1, n2, n3⟩ D hlx hAL hE) A 0 _ _ _ _ _ _ _ _ _ _ _ _ (Nat.zero_add _) (fun a ha => absurd ha (Nat.not_lt_zero a)) (fun a _ ha => hL a ha) (fun t ht => sf_EQ_rf _ _ _ _ _ _ _ _ _ _)
end
end
section
/-! sums over the numbers of indices -/
def sf_SS (F : (Nat → Nat) → Int32) (G : Nat → Nat) : List Nat → (Nat → Nat) → Int32
  | [], v => F v
  | p :: t, v => sf_sm (fun x => sf_SS F G t (sf_un v p x)) (G p)
theorem sf_SS_zero {F : (Nat → Nat) → Int32} {G : Nat → Nat} : ∀ (l : List Nat) (v : Nat → Nat), (∀ w, (∀ p, p ∉ l → w p = v p) → (∀ p, p ∈ l → w p < G p) → F w = 0) → sf_SS F G l v = 0
  | [], v, h => h v (fun _ _ => rfl) (fun p hp => absurd hp List.not_mem_nil)
  | p :: t, v, h => by
    refine sf_sm_0 (G p) (fun x hx => sf_SS_zero t (sf_un v p x) (fun w h1 h2 => h w (fun r hr => ?_) (fun r hr => ?_)))
    · rw [h1 r (fun z => hr (List.mem_cons_of_mem _ z)), sf_ue (fun z => hr (by rw [z]; exact List.mem_cons_self))]
    · by_cases z : r ∈ t
      · exact h2 r z
      · rcases List.mem_cons.mp hr with e | e
        · rw [h1 r z, e, sf_us]
          exact hx
        · exact absurd e z
theorem sf_SS_c {F : (Nat → Nat) → Int32} {G : Nat → Nat} {K : Nat → Prop} (hF : ∀ v w : Nat → Nat, (∀ p, K p → v p = w p) → F v = F w) : ∀ (l : List Nat) (v w : Nat → Nat), (∀ p, K p → p ∉ l → v p = w p) → sf_SS F G l v = sf_SS F G l w
  | [], v, w, h => hF v w (fun p kp => h p kp List.not_mem_nil)
  | p :: t, v, w, h => by
    refine sf_sm_congr (G p) (fun x hx => sf_SS_c hF t _ _ (fun r kr hr => ?_))
    by_cases e : r = p
    · rw [e, sf_us, sf_us]
    · rw [sf_ue e, sf_ue e]
      exact h r kr (fun z => (List.mem_cons.mp z).elim e hr)
theorem sf_un_c {v : Nat → Nat} {p q x y : Nat} (h : p ≠ q) : sf_un (sf_un v p x) q y = sf_un (sf_un v q y) p x := by
  funext j
  by_cases e : j = p
  · rw [e, sf_us, sf_ue h, sf_us]
  · by_cases e2 : j = q
    · rw [e2, sf_us, sf_ue (fun z => h z.symm), sf_us]
    · rw [sf_ue e2, sf_ue e, sf_ue e, sf_ue e2]
theorem sf_SS_perm {F : (Nat → Nat) → Int32} {G : Nat → Nat} {l l' : List Nat} (h : l.Perm l') : l.Nodup → ∀ v, sf_SS F G l v = sf_SS F G l' v := by
  induction h with
  | nil => intro _ v; rfl
  | cons a _ ih =>
    intro nd v
    exact sf_sm_congr (G a) (fun x hx => ih (List.nodup_cons.mp nd).2 _)
  | swap a b l =>
    intro nd v
    have hab : b ≠ a := fun z => (List.nodup_cons.mp nd).1 (by rw [z]; exact List.mem_cons_self)
    show sf_sm (fun x => sf_sm (fun y => sf_SS F G l (sf_un (sf_un v b x) a y)) (G a)) (G b) = sf_sm (fun y => sf_sm (fun x => sf_SS F G l (sf_un (sf_un v a y) b x)) (G b)) (G a)
    rw [sf_sm_swap]
    refine sf_sm_congr _ (fun y hy => sf_sm_congr _ (fun x hx => ?_))
    rw [sf_un_c hab]
  | trans h1 _ ih1 ih2 =>
    intro nd v
    rw [ih1 nd v, ih2 (h1.nodup nd) v]
theorem sf_SS_g {F : (Nat → Nat) → Int32} {G T : Nat → Nat} : ∀ (l : List Nat) (v : Nat → Nat), (∀ p, p ∈ l → G p = T p) → sf_SS F G l v = sf_SS F T l v
  | [], v, _ => rfl
  | p :: t, v, h => by
    show sf_sm (fun x => sf_SS F G t (sf_un v p x)) (G p) = sf_sm (fun x => sf_SS F T t (sf_un v p x)) (T p)
    rw [h p List.mem_cons_self]
    exact sf_sm_congr _ (fun x hx => sf_SS_g t _ (fun r hr => h r (List.mem_cons_of_mem _ hr)))
/-- indices that F doesn't see, of one number each, may be appended -/
theorem sf_SS_app {F : (Nat → Nat) → Int32} {T : Nat → Nat} {K : Nat → Prop} (hF : ∀ v w : Nat → Nat, (∀ p, K p → v p = w p) → F v = F w) : ∀ (l m : List Nat) (v : Nat → Nat), (∀ p, p ∈ m → ¬ K p ∧ T p = 1) → sf_SS F T (l ++ m) v = sf_SS F T l v
  | [], [], v, _ => rfl
  | [], p :: m, v, h => by
    have hp := h p List.mem_cons_self
    show sf_sm (fun x => sf_SS F T m (sf_un v p x)) (T p) = F v
    rw [hp.2]
    show 0 + sf_SS F T m (sf_un v p 0) = F v
    rw [Int32.zero_add]
    have := sf_SS_app hF [] m (sf_un v p 0) (fun r hr => h r (List.mem_cons_of_mem _ hr))
    rw [List.nil_append] at this
    rw [this]
    exact hF _ _ (fun r kr => sf_ue (fun z => hp.1 (z ▸ kr)))
  | p :: l, m, v, h => by
    show sf_sm (fun x => sf_SS F T (l ++ m) (sf_un v p x)) (T p) = sf_sm (fun x => sf_SS F T l (sf_un v p x)) (T p)
    exact sf_sm_congr _ (fun x hx => sf_SS_app hF l m _ h)
/-- the list q d .. q (d + m - 1) -/
def sf_ls (q : Nat → Nat) : Nat → Nat → List Nat
  | _, 0 => []
  | d, m + 1 => q d :: sf_ls q (d + 1) m
theorem sf_ls_mem (q : Nat → Nat) : ∀ m d e, d ≤ e → e < d + m → q e ∈ sf_ls q d m
  | 0, d, e, h1, h2 => by omega
  | m + 1, d, e, h1, h2 => by
    by_cases z : e = d
    · rw [z]
      exact List.mem_cons_self
    · exact List.mem_cons_of_mem _ (sf_ls_mem q m (d + 1) e (by omega) (by omega))
theorem sf_ls_ex (q : Nat → Nat) : ∀ m d p, p ∈ sf_ls q d m → ∃ e, d ≤ e ∧ e < d + m ∧ q e = p
  | 0, d, p, h => absurd h List.not_mem_nil
  | m + 1, d, p, h => by
    rcases List.mem_cons.mp h with e | e
    · exact ⟨d, Nat.le_refl _, by omega, e.symm⟩
    · obtain ⟨x, x1, x2, x3⟩ := sf_ls_ex q m (d + 1) p e
      exact ⟨x, by omega, by omega, x3⟩
theorem sf_ls_nd (q : Nat → Nat) {L : Nat} (hq : ∀ d e, d < L → e < L → q d = q e → d = e) : ∀ m d, d + m ≤ L → (sf_ls q d m).Nodup
  | 0, d, _ => List.nodup_nil
  | m + 1, d, h => by
    refine List.nodup_cons.mpr ⟨fun z => ?_, sf_ls_nd q hq m (d + 1) (by omega)⟩
    obtain ⟨x, x1, x2, x3⟩ := sf_ls_ex q m (d + 1) _ z
    have := hq x d (by omega) (by omega) x3
    omega
/-! sums with one taken out, and longer ones -/
theorem sf_sm_take (f : Nat → Int32) (x : Nat) : ∀ n, sf_sm f n = sf_sm (fun y => if y = x then 0 else f y) n + (if x < n then f x else 0)
  | 0 => rfl
  | n + 1 => by
    show sf_sm f n + f n = (sf_sm (fun y => if y = x then 0 else f y) n + (if n = x then 0 else f n)) + (if x < n + 1 then f x else 0)
    rw [sf_sm_take f x n]
    by_cases e : n = x
    · rw [if_pos e, if_neg (by omega), if_pos (by omega), e, Int32.add_zero]
    · rw [if_neg e]
      by_cases l : x < n
      · rw [if_pos l, if_pos (by omega), Int32.add_assoc, Int32.add_comm (f x), Int32.add_assoc]
      · rw [if_neg l, if_neg (by omega), Int32.add_zero, Int32.add_zero]
theorem sf_sm_ext {f : Nat → Int32} {m : Nat} : ∀ n, m ≤ n → (∀ y, m ≤ y → y < n → f y = 0) → sf_sm f n = sf_sm f m
  | 0, h, _ => by rw [show m = 0 by omega]
  | n + 1, h, hz => by
    by_cases e : m = n + 1
    · rw [e]
    · show sf_sm f n + f n = _
      rw [hz n (by omega) (by omega), Int32.add_zero]
      exact sf_sm_ext n (by omega) (fun y a b => hz y a (by omega))
/-! what is still to come in X's loops -/
def sf_TE (F : (Nat → Nat) → Int32) (G q : Nat → Nat) (L : Nat) (B : Int32) (v : Nat → Nat) (e : Nat) : Int32 := sf_sm (fun x => if bt B x = true then sf_SS F G (sf_ls q (e + 1) (L - (e + 1))) (sf_un v (q e) x) else 0) 6
section
variable {F : (Nat → Nat) → Int32} {G q : Nat → Nat} {L : Nat}
def sf_KK (q : Nat → Nat) (L p : Nat) : Prop := p = 3 ∨ ∃ e, e < L ∧ q e = p
theorem sf_TE_c (hF : ∀ v w : Nat → Nat, (∀ p, sf_KK q L p → v p = w p) → F v = F w) {B : Int32} {v w : Nat → Nat} {e : Nat} (h3 : v 3 = w 3) (h : ∀ d, d < e → v (q d) = w (q d)) : sf_TE F G q L B v e = sf_TE F G q L B w e := by
  refine sf_sm_congr 6 (fun x hx => ?_)
  by_cases b : bt B x = true
  · rw [if_pos b, if_pos b]
    refine sf_SS_c (K := sf_KK q L) hF _ _ _ (fun p kp hp => ?_)
    by_cases z : p = q e
    · rw [z, sf_us, sf_us]
    · rw [sf_ue z, sf_ue z]
      rcases kp with kp | ⟨d, hd, ed⟩
      · rw [kp]
        exact h3
      · by_cases c : d < e
        · rw [← ed]
          exact h d c
        · by_cases c2 : d = e
          · rw [c2] at ed
            exact absurd ed.symm z
          · refine absurd ?_ hp
            rw [← ed]
            exact sf_ls_mem q _ _ d (by omega) (by omega)
  · rw [if_neg b, if_neg b]
theorem sf_TE_take {B B' : Int32} {v : Nat → Nat} {e x : Nat} (hx : x < 6) (hb : bt B x = true) (hb' : ∀ y, y < 6 → bt B' y = (bt B y && !decide (y = x))) :
    sf_TE F G q L B v e = sf_TE F G q L B' v e + sf_SS F G (sf_ls q (e + 1) (L - (e + 1))) (sf_un v (q e) x) := by
  unfold sf_TE
  rw [sf_sm_take _ x 6, if_pos hx, if_pos hb]
  congr 1
  refine sf_sm_congr 6 (fun y hy => ?_)
  rw [hb' y hy]
  by_cases z : y = x
  · rw [if_pos z, decide_eq_true z, Bool.not_true, Bool.and_false, if_neg (by decide)]
  · rw [if_neg z, decide_eq_false z, Bool.not_false, Bool.and_true]
theorem sf_TE_0 {v : Nat → Nat} {e : Nat} : sf_TE F G q L 0 v e = 0 := by
  refine sf_sm_0 6 (fun x hx => ?_)
  rw [b_0, if_neg (by decide)]
theorem sf_TE_full {B B' : Int32} {v : Nat → Nat} {e : Nat} (he : e < L) (hG : G (q e) ≤ 6) (hb : ∀ y, y < 6 → bt B' y = (bt B y && decide (y < G (q e)))) (hz : ∀ y, y < G (q e) → bt B y = false → sf_SS F G (sf_ls q (e + 1) (L - (e + 1))) (sf_un v (q e) y) = 0) :
    sf_TE F G q L B' v e = sf_SS F G (sf_ls q e (L - e)) v := by
  have el : sf_ls q e (L - e) = q e :: sf_ls q (e + 1) (L - (e + 1)) := by
    rw [show L - e = (L - (e + 1)) + 1 by omega]
    rfl
  rw [el]
  unfold sf_TE
  rw [sf_sm_ext 6 hG (fun y a b => ?_)]
  · refine sf_sm_congr _ (fun y hy => ?_)
    rw [hb y (by omega), decide_eq_true hy, Bool.and_true]
    cases c : bt B y with
    | true => rw [if_pos rfl]
    | false =>
      rw [if_neg (by decide)]
      exact (hz y hy c).symm
  · rw [hb y b, decide_eq_false (by omega), Bool.and_false, if_neg (by decide)]
end
/-! the value of a formula -/
def sf_op (kd sz : Nat → Nat) (nm lf f : Nat → Int32) (p : Nat) : Int32 :=
  if kd p = 0 then nm p else if kd p = 1 then lf p else if kd p = 2 then -(f (p - 1)) else if kd p = 3 then f (p - 1 - sz (p - 1)) + f (p - 1) else if kd p = 4 then f (p - 1 - sz (p - 1)) - f (p - 1) else f (p - 1 - sz (p - 1)) * f (p - 1)
def sf_vs (kd sz : Nat → Nat) (nm lf : Nat → Int32) : Nat → Nat → Int32
  | 0 => fun _ => 0
  | n + 1 => upd (sf_vs kd sz nm lf n) n (sf_op kd sz nm lf (sf_vs kd sz nm lf n) n)
def sf_V (kd sz : Nat → Nat) (nm lf : Nat → Int32) (p : Nat) : Int32 := sf_vs kd sz nm lf (p + 1) p
section
variable {kd sz : Nat → Nat} {nm lf : Nat → Int32}
theorem sf_vs_V : ∀ n i, i < n → sf_vs kd sz nm lf n i = sf_V kd sz nm lf i
  | 0, i, h => absurd h (Nat.not_lt_zero i)
  | n + 1, i, h => by
    by_cases e : i = n
    · rw [e]
      rfl
    · show upd (sf_vs kd sz nm lf n) n _ i = _
      rw [pk_un e]
      exact sf_vs_V n i (by omega)
theorem sf_op_c {f f' : Nat → Int32} {p : Nat} (h : ∀ i, i < p → f i = f' i) (hp : 2 ≤ kd p → 1 ≤ p) : sf_op kd sz nm lf f p = sf_op kd sz nm lf f' p := by
  unfold sf_op
  by_cases a : kd p = 0
  · rw [if_pos a, if_pos a]
  · rw [if_neg a, if_neg a]
    by_cases b : kd p = 1
    · rw [if_pos b, if_pos b]
    · rw [if_neg b, if_neg b]
      have := hp (by omega)
      rw [h (p - 1) (by omega), h (p - 1 - sz (p - 1)) (by omega)]
theorem sf_V_eq {P : Nat} (T : sf_TR P kd sz) {p : Nat} (hp : p < P) : sf_V kd sz nm lf p = sf_op kd sz nm lf (sf_V kd sz nm lf) p := by
  have e : sf_V kd sz nm lf p = sf_op kd sz nm lf (sf_vs kd sz nm lf p) p := pk_us
  rw [e]
  refine sf_op_c (fun i hi => sf_vs_V p i hi) (fun h2 => ?_)
  have := (T p hp).2.2
  omega
theorem sf_V_c {lf' : Nat → Int32} {P : Nat} (T : sf_TR P kd sz) (h : ∀ p, p < P → kd p = 1 → lf p = lf' p) : ∀ n p, p < n → p < P → sf_V kd sz nm lf p = sf_V kd sz nm lf' p := by
  intro n
  induction n with
  | zero => intro p hp; omega
  | succ n ih =>
    intro p hn hp
    rw [sf_V_eq T hp, sf_V_eq T hp]
    have t := (T p hp).2.2
    unfold sf_op
    by_cases a : kd p = 0
    · rw [if_pos a, if_pos a]
    · rw [if_neg a, if_neg a]
      by_cases b : kd p = 1
      · rw [if_pos b, if_pos b]
        exact h p hp b
      · rw [if_neg b, if_neg b]
        rw [ih (p - 1) (by omega) (by omega), ih (p - 1 - sz (p - 1)) (by omega) (by omega)]
end
end
section
/-! X's machine: what an array, a loop is -/
def sf_lp (kl : Nat → Bool) (l : Nat) : Int32 := if kl l = true then nI (sf_cn kl l) else -1
def sf_pp (kl : Nat → Bool) (kp : Nat → Nat → Bool) (W l p : Nat) : Int32 := if kl l = true then (if kp l p = true then nI (sf_bg kl kp W l + sf_cn (kp l) p) else -1) else -1
theorem sf_lp_t {kl : Nat → Bool} {l : Nat} (h : kl l = true) : sf_lp kl l = nI (sf_cn kl l) := if_pos h
theorem sf_lp_f {kl : Nat → Bool} {l : Nat} (h : kl l = false) : sf_lp kl l = -1 := if_neg (by rw [h]; decide)
theorem sf_pp_t {kl : Nat → Bool} {kp : Nat → Nat → Bool} {W l p : Nat} (h : kl l = true) (h2 : kp l p = true) : sf_pp kl kp W l p = nI (sf_bg kl kp W l + sf_cn (kp l) p) := by
  unfold sf_pp
  rw [if_pos h, if_pos h2]
theorem sf_pp_f {kl : Nat → Bool} {kp : Nat → Nat → Bool} {W l p : Nat} (h : kl l = false) : sf_pp kl kp W l p = -1 := if_neg (by rw [h]; decide)
theorem sf_pp_g {kl : Nat → Bool} {kp : Nat → Nat → Bool} {W l p : Nat} (h2 : kp l p = false) : sf_pp kl kp W l p = -1 := by
  unfold sf_pp
  rw [if_neg (c := kp l p = true) (by rw [h2]; decide)]
  split <;> rfl
def sf_AC (L : Nat) (q G : Nat → Nat) (li pi C W : Nat) (kl : Nat → Bool) (kp : Nat → Nat → Bool) (g : Nat → Nat → Int32) : Prop :=
  sf_KK q L li ∧ sf_KK q L pi ∧ C ≤ 6 ∧ W ≤ 6 ∧ (li = 3 → 1 ≤ C ∧ kl 0 = true) ∧ (li ≠ 3 → C = G li) ∧ (pi = 3 → 1 ≤ W ∧ li = 3) ∧ (pi ≠ 3 → W = G pi) ∧ (∀ d, d < L → pi = q d → sf_KK q d li) ∧
  (∀ l, kl l = false → ∀ p, p < W → g l p = 0) ∧ (∀ l p, kp l p = false → g l p = 0)
def sf_QC (L : Nat) (q G : Nat → Nat) (lx sp : Nat → Int32) : Prop := L ≤ 3 ∧ (∀ d, d < L → q d < 3 ∧ lx d = nI (q d) ∧ 1 ≤ G (q d) ∧ G (q d) ≤ 6 ∧ sp (q d) = nI (G (q d))) ∧ (∀ d e, d < L → e < L → q d = q e → d = e)
def sf_HA (A L : Nat) (q G li pi C W : Nat → Nat) (kl : Nat → Nat → Bool) (kp : Nat → Nat → Nat → Bool) (g : Nat → Nat → Nat → Int32) (xl xp ql qa qb qp qn : Nat → Int32) : Prop :=
  ∀ a, a < A → xl a = sf_eI (li a) ∧ xp a = sf_eI (pi a) ∧ sf_AC L q G (li a) (pi a) (C a) (W a) (kl a) (kp a) (g a) ∧ sf_PK (6 + a) ql qa qb qp qn (C a) (W a) (kl a) (kp a) (g a)
/-- where the arrays have come to, for indices of the outer loops below d -/
def sf_SA (d : Nat) (q : Nat → Nat) (li pi W : Nat) (kl : Nat → Bool) (kp : Nat → Nat → Bool) (v : Nat → Nat) (x y : Int32) : Prop := (sf_KK q d li → x = sf_lp kl (v li)) ∧ (sf_KK q d pi → y = sf_pp kl kp W (v li) (v pi))
def sf_AG (L : Nat) (q G : Nat → Nat) (d : Nat) (v w : Nat → Nat) : Prop := w 3 = 0 ∧ (∀ e, e < d → w (q e) = v (q e)) ∧ (∀ e, e < L → w (q e) < G (q e))
def sf_Snd (L : Nat) (q G : Nat → Nat) (d : Nat) (v : Nat → Nat) (B : Int32) (f : (Nat → Nat) → Int32) : Prop := ∀ w, sf_AG L q G d v w → bt B (w (q d)) = false → f w = 0
theorem sf_bt1 : ∀ j, j < 32 → bt 1 j = decide (j = 0) := by decide +kernel
theorem sf_b1 {l x : Nat} (hl : l < 32) (hx : x < 32) : bt ((1 : Int32) <<< (nI l &&& 31)) x = decide (x = l) := by
  rw [b_shl l hl 1 hx]
  by_cases e : l ≤ x
  · rw [decide_eq_true e, Bool.true_and, sf_bt1 _ (by omega)]
    exact decide_eq_decide.mpr (by omega)
  · rw [decide_eq_false e, Bool.false_and, decide_eq_false (by omega)]
theorem sf_63 : ∀ x, x < 6 → bt 63 x = true := by decide +kernel
theorem sf_mask : ∀ n, n ≤ 6 → ∀ y, y < 32 → bt (((1 : Int32) <<< (nI n &&& 31)) - 1) y = decide (y < n) := by decide +kernel
theorem sf_AGw {L : Nat} {q G : Nat → Nat} {d : Nat} {v w : Nat → Nat} (h : sf_AG L q G d v w) (h3 : v 3 = 0) {p : Nat} (hp : sf_KK q d p) : w p = v p := by
  rcases hp with e | ⟨e, he, rfl⟩
  · rw [e, h.1, h3]
  · exact h.2.1 e he
theorem sf_pqn {A B : Prop} {i p : Nat} (hi : i ≤ 3) (hp : p < 3) (f : i = p → A) (g : i ≠ p → B) : (sf_eI i = nI p → A) ∧ (¬ sf_eI i = nI p → B) := by
  rw [← sf_eI_l hp]
  exact sf_pq hi (by omega) f g
section
variable {f_parts f_arrays f_height f_loops : Int32} {a_rankOf a_rows a_columns a_formatOf a_lines a_lineAt a_lineBegin a_placeAt a_numberAt a_kind a_number a_partA a_partB a_indexA a_indexB a_stack a_inside a_plain a_loopIndex a_spanOf a_lineIndex a_placeIndex a_atLine a_atPlace a_support a_value a_now a_left : Nat → Int32} {A L : Nat} {q G li pi C W : Nat → Nat} {kl : Nat → Nat → Bool} {kp : Nat → Nat → Nat → Bool} {g : Nat → Nat → Nat → Int32}
theorem sf_KK3 {lx sp : Nat → Int32} (QC : sf_QC L q G lx sp) {d p : Nat} (hd : d ≤ L) (h : sf_KK q d p) : p ≤ 3 := by
  rcases h with e | ⟨e, he, rfl⟩
  · omega
  · have := (QC.2.1 e (by omega)).1
    omega
theorem sf_lo {post : Int32 → Prop} {e : Nat} {sp : Nat → Int32} (QC : sf_QC L q G a_loopIndex sp) (he : e < L) (h : post (nI e)) : wpX_loopOf post (f_parts, f_arrays, f_height, f_loops, a_rankOf, a_rows, a_columns, a_formatOf, a_lines, a_lineAt, a_lineBegin, a_placeAt, a_numberAt, a_kind, a_number, a_partA, a_partB, a_indexA, a_indexB, a_stack, a_inside, a_plain, a_loopIndex, a_spanOf, a_lineIndex, a_placeIndex, a_atLine, a_atPlace, a_support, a_value, a_now, a_left) (nI (q e)) := by
  obtain ⟨h1, h2, h3⟩ := QC
  have hq := (h2 e he).1
  have q0 := h2 0 (by omega)
  refine sf_loopOf (o := q) hq q0.2.1 q0.1 ?_ ?_
  · by_cases z : e = 0
    · rw [z]
      exact Or.inl rfl
    · have q1 := h2 1 (by omega)
      exact Or.inr ⟨q1.2.1, q1.1⟩
  · have eo : sf_od q (q e) = e := by
      unfold sf_od
      by_cases z : e = 0
      · rw [z, if_pos rfl]
      · rw [if_neg (fun w => z (h3 0 e (by omega) he w).symm)]
        by_cases z1 : e = 1
        · rw [z1, if_pos rfl]
        · rw [if_neg (fun w => z1 (h3 1 e (by omega) he w).symm)]
          omega
    rw [eo]
    exact h
theorem sf_hl_l {post : Int32 → Prop} {s c w : Nat} {k1 : Nat → Bool} {k2 : Nat → Nat → Bool} {f : Nat → Nat → Int32} (hs : s < 13) (hc6 : c ≤ 6) (PK : sf_PK s a_lines a_lineAt a_lineBegin a_placeAt a_numberAt c w k1 k2 f)
    (h : ∀ B, (∀ x, x < 6 → bt B x = (decide (x < c) && k1 x)) → post B) :
    ∀ n k B, k + n = sf_cn k1 c → (∀ x, x < 6 → bt B x = (decide (x < c ∧ sf_cn k1 x < k) && k1 x)) → wX_heldLines_4 post (nI s) f_parts f_arrays f_height f_loops a_rankOf a_rows a_columns a_formatOf a_lines a_lineAt a_lineBegin a_placeAt a_numberAt a_kind a_number a_partA a_partB a_indexA a_indexB a_stack a_inside a_plain a_loopIndex a_spanOf a_lineIndex a_placeIndex a_atLine a_atPlace a_support a_value a_now a_left (n + 1) B (nI k) := by
  have hc : (nI s).toNatClampNeg = s := nI_clamp (by omega)
  have hin : vp_in (nI s) 13 := vp_in_nI hs (by omega)
  have hb := sf_cn_le k1 c
  intro n
  induction n with
  | zero =>
    intro k B hk hB
    have e : k = sf_cn k1 c := by omega
    refine And.intro hin (br_t ?_ (h B (fun x hx => ?_)))
    · rw [hc, PK.1, e]
      exact nI_le (Nat.le_refl _) (by omega)
    · rw [hB x hx, e]
      cases kx : k1 x with
      | false => rw [Bool.and_false, Bool.and_false]
      | true =>
        rw [Bool.and_true, Bool.and_true]
        exact decide_eq_decide.mpr ⟨fun w => w.1, fun w => ⟨w, sf_cn_lt w kx⟩⟩
  | succ n ih =>
    intro k B hk hB
    obtain ⟨l, hl, kl0, el⟩ := sf_cn_sel k1 c k (by omega)
    refine And.intro hin (br_f ?_ (And.intro (by rw [sf_6]; exact vp_in_nI (by omega) (by omega)) ?_))
    · rw [hc, PK.1]
      exact nI_ge (by omega) (by omega)
    · have ev := (PK.2.2 l hl kl0).1
      rw [el] at ev
      rw [sf_6, nI_clamp (by omega), ev]
      refine nm_e (nm_r (nI_1 k) (ih (k + 1) _ (by omega) (fun x hx => ?_)))
      rw [b_or, hB x hx, sf_b1 (by omega) (by omega)]
      cases kx : k1 x with
      | false =>
        rw [Bool.and_false, Bool.and_false, Bool.false_or]
        exact decide_eq_false (fun w => by rw [w, kl0] at kx; exact absurd kx (by decide))
      | true =>
        rw [Bool.and_true, Bool.and_true]
        by_cases e : x = l
        · rw [decide_eq_true e, Bool.or_true]
          exact (decide_eq_true ⟨by omega, by rw [e]; omega⟩).symm
        · rw [decide_eq_false e, Bool.or_false]
          refine decide_eq_decide.mpr ⟨fun w => ⟨w.1, by omega⟩, fun w => ⟨w.1, ?_⟩⟩
          have : sf_cn k1 x ≠ sf_cn k1 l := fun w2 => e (sf_cn_inj kx kl0 w2)
          omega
theorem sf_heldLines {post : Int32 → Prop} {s c w : Nat} {k1 : Nat → Bool} {k2 : Nat → Nat → Bool} {f : Nat → Nat → Int32} (hs : s < 13) (hc6 : c ≤ 6) (PK : sf_PK s a_lines a_lineAt a_lineBegin a_placeAt a_numberAt c w k1 k2 f)
    (h : ∀ B, (∀ x, x < 6 → bt B x = (decide (x < c) && k1 x)) → post B) : wpX_heldLines post (f_parts, f_arrays, f_height, f_loops, a_rankOf, a_rows, a_columns, a_formatOf, a_lines, a_lineAt, a_lineBegin, a_placeAt, a_numberAt, a_kind, a_number, a_partA, a_partB, a_indexA, a_indexB, a_stack, a_inside, a_plain, a_loopIndex, a_spanOf, a_lineIndex, a_placeIndex, a_atLine, a_atPlace, a_support, a_value, a_now, a_left) (nI s) := by
  unfold wpX_heldLines
  refine ⟨sf_cn k1 c + 1, sf_hl_l hs hc6 PK h (sf_cn k1 c) 0 0 (Nat.zero_add _) (fun x hx => ?_)⟩
  rw [b_0, decide_eq_false (by omega), Bool.false_and]
theorem sf_hp_l {post : Int32 → Prop} {s c w l : Nat} {k1 : Nat → Bool} {k2 : Nat → Nat → Bool} {f : Nat → Nat → Int32} (hs : s < 13) (hc6 : c ≤ 6) (hw6 : w ≤ 6) (PK : sf_PK s a_lines a_lineAt a_lineBegin a_placeAt a_numberAt c w k1 k2 f) (hl : l < c) (kl0 : k1 l = true)
    (h : ∀ B, (∀ x, x < 6 → bt B x = (decide (x < w) && k2 l x)) → post B) :
    ∀ n k B, k + n = sf_cn (k2 l) w → (∀ x, x < 6 → bt B x = (decide (x < w ∧ sf_cn (k2 l) x < k) && k2 l x)) → wX_heldPlaces_35 post (nI s) (nI (sf_bg k1 k2 w l + sf_cn (k2 l) w)) f_parts f_arrays f_height f_loops a_rankOf a_rows a_columns a_formatOf a_lines a_lineAt a_lineBegin a_placeAt a_numberAt a_kind a_number a_partA a_partB a_indexA a_indexB a_stack a_inside a_plain a_loopIndex a_spanOf a_lineIndex a_placeIndex a_atLine a_atPlace a_support a_value a_now a_left (n + 1) B (nI (sf_bg k1 k2 w l + k)) := by
  have hb := sf_bg_end (kp := k2) (w := w) hl kl0
  have hb2 := sf_bg_36 k1 k2 hw6 hc6
  intro n
  induction n with
  | zero =>
    intro k B hk hB
    have e : k = sf_cn (k2 l) w := by omega
    refine br_t (nI_le (by omega) (by omega)) (h B (fun x hx => ?_))
    rw [hB x hx, e]
    cases kx : k2 l x with
    | false => rw [Bool.and_false, Bool.and_false]
    | true =>
      rw [Bool.and_true, Bool.and_true]
      exact decide_eq_decide.mpr ⟨fun w => w.1, fun w => ⟨w, sf_cn_lt w kx⟩⟩
  | succ n ih =>
    intro k B hk hB
    obtain ⟨p, hp, kp0, ep⟩ := sf_cn_sel (k2 l) w k (by omega)
    refine br_f (nI_ge (by omega) (by omega)) (And.intro (by rw [sf_36]; exact vp_in_nI (by omega) (by omega)) ?_)
    have ev := ((PK.2.2 l hl kl0).2 p hp kp0).1
    rw [ep] at ev
    rw [sf_36, nI_clamp (by omega), ev]
    refine nm_e (nm_r (nI_1 _) (ih (k + 1) _ (by omega) (fun x hx => ?_)))
    rw [b_or, hB x hx, sf_b1 (by omega) (by omega)]
    cases kx : k2 l x with
    | false =>
      rw [Bool.and_false, Bool.and_false, Bool.false_or]
      exact decide_eq_false (fun w => by rw [w, kp0] at kx; exact absurd kx (by decide))
    | true =>
      rw [Bool.and_true, Bool.and_true]
      by_cases e : x = p
      · rw [decide_eq_true e, Bool.or_true]
        exact (decide_eq_true ⟨by omega, by rw [e]; omega⟩).symm
      · rw [decide_eq_false e, Bool.or_false]
        refine decide_eq_decide.mpr ⟨fun w => ⟨w.1, by omega⟩, fun w => ⟨w.1, ?_⟩⟩
        have : sf_cn (k2 l) x ≠ sf_cn (k2 l) p := fun w2 => e (sf_cn_inj kx kp0 w2)
        omega
theorem sf_heldPlaces {post : Int32 → Prop} {s c w l : Nat} {k1 : Nat → Bool} {k2 : Nat → Nat → Bool} {f : Nat → Nat → Int32} (hs : s < 13) (hc6 : c ≤ 6) (hw6 : w ≤ 6) (PK : sf_PK s a_lines a_lineAt a_lineBegin a_placeAt a_numberAt c w k1 k2 f) (hl : l < c)
    (h1 : k1 l = true → ∀ B, (∀ x, x < 6 → bt B x = (decide (x < w) && k2 l x)) → post B) (h0 : k1 l = false → post 0) : wpX_heldPlaces post (f_parts, f_arrays, f_height, f_loops, a_rankOf, a_rows, a_columns, a_formatOf, a_lines, a_lineAt, a_lineBegin, a_placeAt, a_numberAt, a_kind, a_number, a_partA, a_partB, a_indexA, a_indexB, a_stack, a_inside, a_plain, a_loopIndex, a_spanOf, a_lineIndex, a_placeIndex, a_atLine, a_atPlace, a_support, a_value, a_now, a_left) (nI s) (sf_lp k1 l) := by
  unfold wpX_heldPlaces
  dsimp only
  cases e : k1 l with
  | false =>
    rw [sf_lp_f e]
    exact br_t rfl (h0 e)
  | true =>
    have b1 := sf_cn_lt hl e
    have b2 := sf_cn_le k1 c
    have l1 := PK.2.1 l (by omega)
    have l2 := PK.2.1 (l + 1) (by omega)
    rw [sf_cn_t e, sf_bg_t e] at l2
    rw [sf_lp_t e, sf_71, sf_7, nI_clamp (n := 7 * s + sf_cn k1 l) (by omega), nI_clamp (n := 7 * s + (sf_cn k1 l + 1)) (by omega), l1, l2]
    refine br_f (sf_nm1 (by omega)) ⟨vp_in_nI (by omega) (by omega), nm_e ⟨vp_in_nI (by omega) (by omega), nm_e ⟨sf_cn (k2 l) w + 1, ?_⟩⟩⟩
    refine sf_hp_l hs hc6 hw6 PK hl e (h1 e) (sf_cn (k2 l) w) 0 0 (Nat.zero_add _) (fun x hx => ?_)
    rw [b_0, decide_eq_false (by omega), Bool.false_and]
theorem sf_vB {lx sp : Nat → Int32} (QC : sf_QC L q G lx sp) {l p c w : Nat} {k1 : Nat → Bool} {k2 : Nat → Nat → Bool} {f : Nat → Nat → Int32} (AC : sf_AC L q G l p c w k1 k2 f) {v : Nat → Nat} (h3 : v 3 = 0) {d : Nat} (hd : d ≤ L) (hv : ∀ e, e < d → v (q e) < G (q e)) :
    (sf_KK q d l → v l < c) ∧ (sf_KK q d p → v p < w) := by
  obtain ⟨a1, a2, a3, a4, a5, a6, a7, a8, a9, a10, a11⟩ := AC
  constructor
  · intro z
    rcases z with z | ⟨e, he, rfl⟩
    · rw [z, h3]
      have := (a5 z).1
      omega
    · rw [a6 (by have := (QC.2.1 e (by omega)).1; omega)]
      exact hv e he
  · intro z
    rcases z with z | ⟨e, he, rfl⟩
    · rw [z, h3]
      have := (a7 z).1
      omega
    · rw [a8 (by have := (QC.2.1 e (by omega)).1; omega)]
      exact hv e he
theorem sf_arrSup {post : Int32 → Prop} {sp : Nat → Int32} (QC : sf_QC L q G a_loopIndex sp) (hA : A ≤ 6) (HA : sf_HA A L q G li pi C W kl kp g a_lineIndex a_placeIndex a_lines a_lineAt a_lineBegin a_placeAt a_numberAt) {d : Nat} (hd : d < L) {v : Nat → Nat} (h3 : v 3 = 0) (hv : ∀ e, e < d → v (q e) < G (q e))
    {a : Nat} (ha : a < A) (S : sf_SA d q (li a) (pi a) (W a) (kl a) (kp a) v (a_atLine a) (a_atPlace a))
    (h : ∀ B, sf_Snd L q G d v B (fun w => g a (w (li a)) (w (pi a))) → post B) : wpX_arraySupport post (f_parts, f_arrays, f_height, f_loops, a_rankOf, a_rows, a_columns, a_formatOf, a_lines, a_lineAt, a_lineBegin, a_placeAt, a_numberAt, a_kind, a_number, a_partA, a_partB, a_indexA, a_indexB, a_stack, a_inside, a_plain, a_loopIndex, a_spanOf, a_lineIndex, a_placeIndex, a_atLine, a_atPlace, a_support, a_value, a_now, a_left) (nI a) (nI (q d)) := by
  have hca : (nI a).toNatClampNeg = a := nI_clamp (by omega)
  have hi6 : vp_in (nI a) 6 := vp_in_nI (by omega) (by omega)
  obtain ⟨x1, x2, AC, PK⟩ := HA a ha
  have AC' := AC
  obtain ⟨a1, a2, a3, a4, a5, a6, a7, a8, a9, a10, a11⟩ := AC
  have hL3 := QC.1
  have hl3 := sf_KK3 QC (Nat.le_refl _) a1
  have hp3 := sf_KK3 QC (Nat.le_refl _) a2
  have hq := QC.2.1 d hd
  have hB : ∀ w, sf_AG L q G d v w → w (li a) < C a ∧ w (pi a) < W a := fun w AG => ⟨(sf_vB QC AC' AG.1 (Nat.le_refl _) AG.2.2).1 a1, (sf_vB QC AC' AG.1 (Nat.le_refl _) AG.2.2).2 a2⟩
  have s63 : sf_Snd L q G d v 63 (fun w => g a (w (li a)) (w (pi a))) := by
    intro w AG hb
    have := AG.2.2 d hd
    rw [sf_63 _ (by omega)] at hb
    exact absurd hb (by decide)
  have k131 : ∀ x4 z0 : Int32, (x4 = 0 ∨ (x4 = 1 ∧ ∀ w, sf_AG L q G d v w → g a (w (li a)) (w (pi a)) = 0)) → (z0 = 0 ∨ (z0 = 1 ∧ ∀ w, sf_AG L q G d v w → g a (w (li a)) (w (pi a)) = 0)) → wX_arraySupport_131 post x4 z0 f_parts f_arrays f_height f_loops a_rankOf a_rows a_columns a_formatOf a_lines a_lineAt a_lineBegin a_placeAt a_numberAt a_kind a_number a_partA a_partB a_indexA a_indexB a_stack a_inside a_plain a_loopIndex a_spanOf a_lineIndex a_placeIndex a_atLine a_atPlace a_support a_value a_now a_left := by
    intro x4 z0 h4 h0
    unfold wX_arraySupport_131
    rcases h4 with h4 | ⟨h4, z4⟩
    · rcases h0 with h0 | ⟨h0, zz⟩
      · exact br_t h4 (br_t h0 (h 63 s63))
      · subst h0
        exact br_t h4 (br_f (by decide) (h 0 (fun w AG _ => zz w AG)))
    · subst h4
      exact br_f (by decide) (h 0 (fun w AG _ => z4 w AG))
  have k86 : (li a ≠ q d) → (pi a ≠ q d) → ∀ x4 : Int32, (x4 = 0 ∨ (x4 = 1 ∧ ∀ w, sf_AG L q G d v w → g a (w (li a)) (w (pi a)) = 0)) → wX_arraySupport_86 post (nI a) (nI (q d)) x4 f_parts f_arrays f_height f_loops a_rankOf a_rows a_columns a_formatOf a_lines a_lineAt a_lineBegin a_placeAt a_numberAt a_kind a_number a_partA a_partB a_indexA a_indexB a_stack a_inside a_plain a_loopIndex a_spanOf a_lineIndex a_placeIndex a_atLine a_atPlace a_support a_value a_now a_left := by
    intro n1 n2 x4 h4
    unfold wX_arraySupport_86
    rw [hca, x2]
    refine And.intro hi6 (sf_pe hp3 (fun w => k131 x4 0 h4 (Or.inl rfl)) (fun w => And.intro hi6 ?_))
    rcases a2 with a2 | ⟨e, he, ee⟩
    · omega
    · rw [sf_eI_l w, ← ee]
      refine sf_lo QC he (sf_lo QC hd (pk_le d e (fun z => k131 x4 0 h4 (Or.inl rfl)) (fun z => And.intro hi6 ?_)))
      have sy := S.2 (Or.inr ⟨e, z, ee⟩)
      refine br_c (fun y => k131 x4 1 h4 (Or.inr ⟨rfl, fun w AG => ?_⟩)) (fun y => k131 x4 0 h4 (Or.inl rfl))
      have kli : sf_KK q d (li a) := by
        rcases a9 e he ee.symm with z2 | ⟨e2, z2, z3⟩
        · exact Or.inl z2
        · exact Or.inr ⟨e2, by omega, z3⟩
      rw [sf_AGw AG h3 kli, sf_AGw AG h3 (Or.inr ⟨e, z, ee⟩)]
      rw [y] at sy
      cases k1 : kl a (v (li a)) with
      | false => exact a10 _ k1 _ ((sf_vB QC AC' h3 (by omega) hv).2 (Or.inr ⟨e, z, ee⟩))
      | true =>
        cases k2 : kp a (v (li a)) (v (pi a)) with
        | false => exact a11 _ _ k2
        | true =>
          rw [sf_pp_t k1 k2] at sy
          have q36 := sf_pos36 (kl := kl a) (kp := kp a) a3 a4 ((sf_vB QC AC' h3 (by omega) hv).1 kli) k1 ((sf_vB QC AC' h3 (by omega) hv).2 (Or.inr ⟨e, z, ee⟩)) k2
          exact absurd sy.symm (sf_nm1 (by omega))
  unfold wpX_arraySupport
  dsimp only
  refine nm_r (sf_a6 a) ?_
  rw [hca, x1, x2]
  refine And.intro hi6 (sf_pqn hl3 hq.1 (fun w => ?_) (fun w => And.intro hi6 (sf_pqn hp3 hq.1 (fun w2 => And.intro hi6 ?_) (fun w2 => And.intro hi6 (sf_pe hl3 (fun w3 => ?_) (fun w3 => And.intro hi6 ?_))))))
  · refine sf_heldLines (by omega) a3 PK (fun B hBt => h B (fun u AG hb => ?_))
    have b := hB u AG
    rw [← w, hBt _ (by omega), decide_eq_true b.1, Bool.true_and] at hb
    exact a10 _ hb _ b.2
  · have kli := a9 d hd w2
    rw [S.1 kli]
    refine sf_heldPlaces (by omega) a3 a4 PK ((sf_vB QC AC' h3 (by omega) hv).1 kli) (fun k1 B hBt => h B (fun u AG hb => ?_)) (fun k1 => h 0 (fun u AG _ => ?_))
    · have b := hB u AG
      rw [← w2, hBt _ (by omega), decide_eq_true b.2, Bool.true_and] at hb
      show g a (u (li a)) (u (pi a)) = 0
      rw [sf_AGw AG h3 kli]
      exact a11 _ _ hb
    · have b := hB u AG
      show g a (u (li a)) (u (pi a)) = 0
      rw [sf_AGw AG h3 kli]
      exact a10 _ k1 _ b.2
  · exact k86 w w2 0 (Or.inl rfl)
  · rcases a1 with a1 | ⟨e, he, ee⟩
    · omega
    · rw [sf_eI_l w3, ← ee]
      refine sf_lo QC he (sf_lo QC hd (pk_le d e (fun z => k86 w w2 0 (Or.inl rfl)) (fun z => And.intro hi6 ?_)))
      have sy := S.1 (Or.inr ⟨e, z, ee⟩)
      refine br_c (fun y => k86 w w2 1 (Or.inr ⟨rfl, fun u AG => ?_⟩)) (fun y => k86 w w2 0 (Or.inl rfl))
      rw [sf_AGw AG h3 (Or.inr ⟨e, z, ee⟩)]
      rw [y] at sy
      cases k1 : kl a (v (li a)) with
      | false => exact a10 _ k1 _ (hB u AG).2
      | true =>
        rw [sf_lp_t k1] at sy
        have := sf_cn_le (kl a) (v (li a))
        have := (sf_vB QC AC' h3 (by omega) hv).1 (Or.inr ⟨e, z, ee⟩)
        exact absurd sy.symm (sf_nm1 (by omega))
end
end
section
theorem sf_bit (B : Int32) {y : Nat} (hy : y < 32) : ((B >>> (nI y &&& 31)) &&& 1 = 1) ↔ bt B y = true := by
  have h0 : bt ((B >>> (nI y &&& 31)) &&& 1) 0 = bt B y := by
    rw [b_and, b_sshr y hy B (by omega), if_pos (by omega), sf_bt1 0 (by omega), Nat.add_zero, decide_eq_true rfl, Bool.and_true]
  constructor
  · intro h
    rw [h, sf_bt1 0 (by omega)] at h0
    rw [← h0]
    rfl
  · intro h
    refine b_ext (fun i hi => ?_)
    by_cases e : i = 0
    · rw [e, h0, h, sf_bt1 0 (by omega)]
      rfl
    · rw [b_and, sf_bt1 i hi, decide_eq_false e, Bool.and_false]
theorem sf_clr (B : Int32) {x y : Nat} (hx : x < 32) (hy : y < 32) : bt (B &&& (((1 : Int32) <<< (nI x &&& 31)) ^^^ (-1))) y = (bt B y && !decide (y = x)) := by
  rw [b_and, b_xor, sf_b1 hx hy, b_m1 y hy, Bool.xor_true]
section
variable {f_parts f_arrays f_height f_loops : Int32} {a_rankOf a_rows a_columns a_formatOf a_lines a_lineAt a_lineBegin a_placeAt a_numberAt a_kind a_number a_partA a_partB a_indexA a_indexB a_stack a_inside a_plain a_loopIndex a_spanOf a_lineIndex a_placeIndex a_atLine a_atPlace a_support a_value a_now a_left : Nat → Int32} {A L P : Nat} {q G li pi C W kd ar sz : Nat → Nat} {kl : Nat → Nat → Bool} {kp : Nat → Nat → Nat → Bool} {g : Nat → Nat → Nat → Int32} {yk yn ys : Nat → Int32}
/-- the formula's value at v -/
def sf_VV (kd ar sz : Nat → Nat) (yn : Nat → Int32) (g : Nat → Nat → Nat → Int32) (li pi : Nat → Nat) (v : Nat → Nat) (p : Nat) : Int32 := sf_V kd sz yn (fun p => g (ar p) (v (li (ar p))) (v (pi (ar p)))) p
theorem sf_VV_eq (T : sf_TR P kd sz) {p : Nat} (hp : p < P) (v : Nat → Nat) : sf_VV kd ar sz yn g li pi v p = sf_op kd sz yn (fun p => g (ar p) (v (li (ar p))) (v (pi (ar p)))) (sf_VV kd ar sz yn g li pi v) p := sf_V_eq T hp
theorem sf_op0 {nm lf f : Nat → Int32} {p : Nat} (h : kd p = 0) : sf_op kd sz nm lf f p = nm p := if_pos h
theorem sf_op1 {nm lf f : Nat → Int32} {p : Nat} (h : kd p = 1) : sf_op kd sz nm lf f p = lf p := by
  unfold sf_op
  rw [if_neg (by omega), if_pos h]
theorem sf_op2 {nm lf f : Nat → Int32} {p : Nat} (h : kd p = 2) : sf_op kd sz nm lf f p = -(f (p - 1)) := by
  unfold sf_op
  rw [if_neg (by omega), if_neg (by omega), if_pos h]
theorem sf_op3 {nm lf f : Nat → Int32} {p : Nat} (h : kd p = 3) : sf_op kd sz nm lf f p = f (p - 1 - sz (p - 1)) + f (p - 1) := by
  unfold sf_op
  rw [if_neg (by omega), if_neg (by omega), if_neg (by omega), if_pos h]
theorem sf_op4 {nm lf f : Nat → Int32} {p : Nat} (h : kd p = 4) : sf_op kd sz nm lf f p = f (p - 1 - sz (p - 1)) - f (p - 1) := by
  unfold sf_op
  rw [if_neg (by omega), if_neg (by omega), if_neg (by omega), if_neg (by omega), if_pos h]
theorem sf_op5 {nm lf f : Nat → Int32} {p : Nat} (h : kd p = 5) : sf_op kd sz nm lf f p = f (p - 1 - sz (p - 1)) * f (p - 1) := by
  unfold sf_op
  rw [if_neg (by omega), if_neg (by omega), if_neg (by omega), if_neg (by omega), if_neg (by omega)]
theorem sf_fsup {post : Int32 → SX → Prop} {sp : Nat → Int32} (T : sf_TR P kd sz) (D : sf_PD P A kd ar sz a_kind a_number a_partA a_partB yk yn ys) (hP : P ≤ 20) (h0 : 0 < P) (hin : ∀ p, p < P → ¬ a_inside p = 0)
    (QC : sf_QC L q G a_loopIndex sp) (hA : A ≤ 6) (HA : sf_HA A L q G li pi C W kl kp g a_lineIndex a_placeIndex a_lines a_lineAt a_lineBegin a_placeAt a_numberAt) {d : Nat} (hd : d < L) {v : Nat → Nat} (h3 : v 3 = 0) (hv : ∀ e, e < d → v (q e) < G (q e))
    (S : ∀ a, a < A → sf_SA d q (li a) (pi a) (W a) (kl a) (kp a) v (a_atLine a) (a_atPlace a))
    (h : ∀ su : Nat → Int32, sf_Snd L q G d v (su (P - 1)) (fun w => sf_VV kd ar sz yn g li pi w (P - 1)) → post (su (P - 1)) (f_parts, f_arrays, f_height, f_loops, a_rankOf, a_rows, a_columns, a_formatOf, a_lines, a_lineAt, a_lineBegin, a_placeAt, a_numberAt, a_kind, a_number, a_partA, a_partB, a_indexA, a_indexB, a_stack, a_inside, a_plain, a_loopIndex, a_spanOf, a_lineIndex, a_placeIndex, a_atLine, a_atPlace, su, a_value, a_now, a_left)) :
    ∀ n k su, k + n = P → (∀ i, i < k → sf_Snd L q G d v (su i) (fun w => sf_VV kd ar sz yn g li pi w i)) → wX_findSupport_2 post (nI (P - 1)) (nI (q d)) f_parts f_arrays f_height f_loops (n + 1) (nI k) a_rankOf a_rows a_columns a_formatOf a_lines a_lineAt a_lineBegin a_placeAt a_numberAt a_kind a_number a_partA a_partB a_indexA a_indexB a_stack a_inside a_plain a_loopIndex a_spanOf a_lineIndex a_placeIndex a_atLine a_atPlace su a_value a_now a_left := by
  have hqd := QC.2.1 d hd
  intro n
  induction n with
  | zero =>
    intro k su hk hs
    have e : k = P := by omega
    subst e
    refine br_t (nI_lt (by omega) (by omega)) (And.intro (vp_in_nI (by omega) (by omega)) ?_)
    rw [nI_clamp (by omega)]
    exact h su (hs _ (by omega))
  | succ n ih =>
    intro k su hk hs
    have hi : vp_in (nI k) 20 := vp_in_nI (by omega) (by omega)
    have hc : (nI k).toNatClampNeg = k := nI_clamp (by omega)
    obtain ⟨d1, d2, d3, d4⟩ := D k (by omega)
    have t := (T k (by omega)).2.2
    have next : ∀ B : Int32, sf_Snd L q G d v B (fun w => sf_VV kd ar sz yn g li pi w k) → wX_findSupport_2 post (nI (P - 1)) (nI (q d)) f_parts f_arrays f_height f_loops (n + 1) (nI (k + 1)) a_rankOf a_rows a_columns a_formatOf a_lines a_lineAt a_lineBegin a_placeAt a_numberAt a_kind a_number a_partA a_partB a_indexA a_indexB a_stack a_inside a_plain a_loopIndex a_spanOf a_lineIndex a_placeIndex a_atLine a_atPlace (upd su k B) a_value a_now a_left := by
      intro B hB
      refine ih (k + 1) _ (by omega) (fun i hi2 => ?_)
      by_cases e : i = k
      · rw [e, pk_us]
        exact hB
      · rw [pk_un e]
        exact hs i (by omega)
    refine br_f (nI_nlt (by omega) (by omega)) (And.intro hi ?_)
    rw [hc, d1]
    refine br_f (hin k (by omega)) (And.intro hi (nm_e ?_))
    refine pk_eq (kd k) 0 (fun e => And.intro hi ?_) (fun e => pk_eq (kd k) 1 (fun e1 => And.intro hi ?_) (fun e1 => pk_eq (kd k) 2 (fun e2 => And.intro hi ?_) (fun e2 => pk_eq (kd k) 5 (fun e5 => And.intro hi ?_) (fun e5 => And.intro hi ?_))))
    · have ev : a_number k = yn k := by
        rcases d4 with ⟨f0, f1, _⟩ | ⟨f0, _⟩ | ⟨f0, _⟩ | ⟨f0, _⟩
        · exact f1
        · omega
        · omega
        · omega
      refine br_c (fun z => And.intro hi (nm_e (nm_r (nI_1 k) (next 0 (fun w AG _ => ?_))))) (fun z => And.intro hi (nm_e (nm_r (nI_1 k) (next 63 (fun w AG hb => ?_)))))
      · show sf_VV kd ar sz yn g li pi w k = 0
        rw [sf_VV_eq T (by omega), sf_op0 e, ← ev]
        exact z
      · have := AG.2.2 d hd
        rw [sf_63 _ (by omega)] at hb
        exact absurd hb (by decide)
    · rcases d4 with ⟨f0, _⟩ | ⟨f0, f1, f2, _⟩ | ⟨f0, _⟩ | ⟨f0, _⟩
      · omega
      · rw [f2]
        refine sf_arrSup QC hA HA hd h3 hv f1 (S _ f1) (fun B hB => And.intro hi (nm_e (nm_r (nI_1 k) (next B (fun w AG hb => ?_)))))
        show sf_VV kd ar sz yn g li pi w k = 0
        rw [sf_VV_eq T (by omega), sf_op1 e1]
        exact hB w AG hb
      · omega
      · omega
    · rcases d4 with ⟨f0, _⟩ | ⟨f0, _⟩ | ⟨f0, f1, f2⟩ | ⟨f0, _⟩
      · omega
      · omega
      · rw [f1, nI_clamp (by omega)]
        refine And.intro (vp_in_nI (by omega) (by omega)) (And.intro hi (nm_e (nm_r (nI_1 k) (next _ (fun w AG hb => ?_)))))
        show sf_VV kd ar sz yn g li pi w k = 0
        have r := hs (k - 1) (by omega) w AG hb
        dsimp only at r
        rw [sf_VV_eq T (by omega), sf_op2 e2, r]
        rfl
      · omega
    · rcases d4 with ⟨f0, _⟩ | ⟨f0, _⟩ | ⟨f0, _⟩ | ⟨f0, f1, f2, f3⟩
      · omega
      · omega
      · omega
      · rw [f2, f3, nI_clamp (by omega), nI_clamp (by omega)]
        refine And.intro (vp_in_nI (by omega) (by omega)) (And.intro hi (And.intro (vp_in_nI (by omega) (by omega)) (And.intro hi (nm_e (nm_r (nI_1 k) (next _ (fun w AG hb => ?_)))))))
        show sf_VV kd ar sz yn g li pi w k = 0
        rw [b_and, Bool.and_eq_false_iff] at hb
        rw [sf_VV_eq T (by omega), sf_op5 e5]
        rcases hb with hb | hb
        · have r := hs _ (by omega) w AG hb
          dsimp only at r
          rw [r, Int32.zero_mul]
        · have r := hs (k - 1) (by omega) w AG hb
          dsimp only at r
          rw [r, Int32.mul_zero]
    · rcases d4 with ⟨f0, _⟩ | ⟨f0, _⟩ | ⟨f0, _⟩ | ⟨f0, f1, f2, f3⟩
      · omega
      · omega
      · omega
      · rw [f2, f3, nI_clamp (by omega), nI_clamp (by omega)]
        refine And.intro (vp_in_nI (by omega) (by omega)) (And.intro hi (And.intro (vp_in_nI (by omega) (by omega)) (And.intro hi (nm_e (nm_r (nI_1 k) (next _ (fun w AG hb => ?_)))))))
        show sf_VV kd ar sz yn g li pi w k = 0
        rw [b_or, Bool.or_eq_false_iff] at hb
        have r1 := hs _ (by omega) w AG hb.1
        have r2 := hs (k - 1) (by omega) w AG hb.2
        dsimp only at r1 r2
        rw [sf_VV_eq T (by omega)]
        by_cases e3 : kd k = 3
        · rw [sf_op3 e3, r1, r2]
          rfl
        · rw [sf_op4 (by omega), r1, r2]
          rfl
theorem sf_enter {post : SX → Prop} (T : sf_TR P kd sz) (D : sf_PD P A kd ar sz a_kind a_number a_partA a_partB yk yn ys) (hP : P ≤ 20) (h0 : 0 < P) (hin : ∀ p, p < P → ¬ a_inside p = 0)
    (QC : sf_QC L q G a_loopIndex a_spanOf) (hA : A ≤ 6) (HA : sf_HA A L q G li pi C W kl kp g a_lineIndex a_placeIndex a_lines a_lineAt a_lineBegin a_placeAt a_numberAt) {d : Nat} (hd : d < L) {v : Nat → Nat} (h3 : v 3 = 0) (hv : ∀ e, e < d → v (q e) < G (q e))
    (S : ∀ a, a < A → sf_SA d q (li a) (pi a) (W a) (kl a) (kp a) v (a_atLine a) (a_atPlace a))
    (h : ∀ (su : Nat → Int32) (B B' : Int32), sf_Snd L q G d v B (fun w => sf_VV kd ar sz yn g li pi w (P - 1)) → (∀ y, y < 32 → bt B' y = (bt B y && decide (y < G (q d)))) → post (f_parts, f_arrays, f_height, f_loops, a_rankOf, a_rows, a_columns, a_formatOf, a_lines, a_lineAt, a_lineBegin, a_placeAt, a_numberAt, a_kind, a_number, a_partA, a_partB, a_indexA, a_indexB, a_stack, a_inside, a_plain, a_loopIndex, a_spanOf, a_lineIndex, a_placeIndex, a_atLine, a_atPlace, su, a_value, a_now, (upd a_left d B'))) : wpX_enter post (f_parts, f_arrays, f_height, f_loops, a_rankOf, a_rows, a_columns, a_formatOf, a_lines, a_lineAt, a_lineBegin, a_placeAt, a_numberAt, a_kind, a_number, a_partA, a_partB, a_indexA, a_indexB, a_stack, a_inside, a_plain, a_loopIndex, a_spanOf, a_lineIndex, a_placeIndex, a_atLine, a_atPlace, a_support, a_value, a_now, a_left) (nI (P - 1)) (nI d) := by
  have hL := QC.1
  have hqd := QC.2.1 d hd
  have hi3 : vp_in (nI d) 3 := vp_in_nI (by omega) (by omega)
  have hcd : (nI d).toNatClampNeg = d := nI_clamp (by omega)
  unfold wpX_enter
  dsimp only
  rw [hcd, hqd.2.1]
  refine And.intro hi3 (nm_e ?_)
  unfold wpX_findSupport
  refine ⟨P + 1, sf_fsup T D hP h0 hin QC hA HA hd h3 hv S (fun su hs => ?_) P 0 _ (Nat.zero_add _) (fun i hi => absurd hi (Nat.not_lt_zero i))⟩
  dsimp only
  rw [nI_clamp (n := q d) (by omega), hqd.2.2.2.2]
  refine And.intro (vp_in_nI hqd.1 (by omega)) (And.intro hi3 (nm_e (h su _ _ hs (fun y hy => ?_))))
  rw [b_and, sf_mask _ hqd.2.2.2.1 y hy]
theorem sf_low_l {post : Int32 → Prop} {B : Int32} (hB : ∃ x, x < 6 ∧ bt B x = true) (h : ∀ x, x < 6 → bt B x = true → post (nI x)) :
    ∀ m x2, m ≤ 6 → ((∃ x, x2 = nI x ∧ x < 6 ∧ bt B x = true) ∨ (∀ y, m ≤ y → y < 6 → bt B y = false)) → wX_lowestOf_4 post B f_parts f_arrays f_height f_loops a_rankOf a_rows a_columns a_formatOf a_lines a_lineAt a_lineBegin a_placeAt a_numberAt a_kind a_number a_partA a_partB a_indexA a_indexB a_stack a_inside a_plain a_loopIndex a_spanOf a_lineIndex a_placeIndex a_atLine a_atPlace a_support a_value a_now a_left (m + 1) x2 (nI m - 1) := by
  intro m
  induction m with
  | zero =>
    intro x2 hm hx
    refine br_t (by decide) ?_
    rcases hx with ⟨x, rfl, h1, h2⟩ | hx
    · exact h x h1 h2
    · obtain ⟨x, h1, h2⟩ := hB
      rw [hx x (Nat.zero_le _) h1] at h2
      exact absurd h2 (by decide)
  | succ m ih =>
    intro x2 hm hx
    rw [nI_pred]
    refine br_f (nI_pos (by omega)) (br_c (fun z => nm_r (sf_dm m) (ih _ (by omega) (Or.inl ⟨m, rfl, by omega, (sf_bit B (by omega)).mp z⟩))) (fun z => nm_r (sf_dm m) (ih _ (by omega) ?_)))
    rcases hx with hx | hx
    · exact Or.inl hx
    · refine Or.inr (fun y h1 h2 => ?_)
      by_cases e : y = m
      · rw [e]
        cases c : bt B m with
        | false => rfl
        | true => exact absurd ((sf_bit B (by omega)).mpr c) z
      · exact hx y (by omega) h2
theorem sf_lowest {post : Int32 → Prop} {B : Int32} (hB : ∃ x, x < 6 ∧ bt B x = true) (h : ∀ x, x < 6 → bt B x = true → post (nI x)) : wpX_lowestOf post (f_parts, f_arrays, f_height, f_loops, a_rankOf, a_rows, a_columns, a_formatOf, a_lines, a_lineAt, a_lineBegin, a_placeAt, a_numberAt, a_kind, a_number, a_partA, a_partB, a_indexA, a_indexB, a_stack, a_inside, a_plain, a_loopIndex, a_spanOf, a_lineIndex, a_placeIndex, a_atLine, a_atPlace, a_support, a_value, a_now, a_left) B := by
  unfold wpX_lowestOf
  exact ⟨7, sf_low_l hB h 6 0 (Nat.le_refl _) (Or.inr (fun y a b => by omega))⟩
theorem sf_mv_l {post : SX → Prop} {lx sp : Nat → Int32} (QC : sf_QC L q G lx sp) (hA : A ≤ 6) (HA : sf_HA A L q G li pi C W kl kp g a_lineIndex a_placeIndex a_lines a_lineAt a_lineBegin a_placeAt a_numberAt) {d x : Nat} (hd : d < L) {v : Nat → Nat} (h3 : v 3 = 0) (hv : ∀ e, e < d → v (q e) < G (q e)) (hx : x < G (q d))
    (h : ∀ aL aP : Nat → Int32, (∀ a, a < A → sf_SA (d + 1) q (li a) (pi a) (W a) (kl a) (kp a) (sf_un v (q d) x) (aL a) (aP a)) → post (f_parts, (nI A), f_height, f_loops, a_rankOf, a_rows, a_columns, a_formatOf, a_lines, a_lineAt, a_lineBegin, a_placeAt, a_numberAt, a_kind, a_number, a_partA, a_partB, a_indexA, a_indexB, a_stack, a_inside, a_plain, a_loopIndex, a_spanOf, a_lineIndex, a_placeIndex, aL, aP, a_support, a_value, a_now, a_left)) :
    ∀ n k aL aP, k + n = A → (∀ a, a < k → sf_SA (d + 1) q (li a) (pi a) (W a) (kl a) (kp a) (sf_un v (q d) x) (aL a) (aP a)) → (∀ a, k ≤ a → a < A → sf_SA d q (li a) (pi a) (W a) (kl a) (kp a) v (aL a) (aP a)) →
      wX_moveTo_9 post (nI (q d)) (nI x) f_parts (nI A) f_height f_loops (n + 1) (nI k) a_rankOf a_rows a_columns a_formatOf a_lines a_lineAt a_lineBegin a_placeAt a_numberAt a_kind a_number a_partA a_partB a_indexA a_indexB a_stack a_inside a_plain a_loopIndex a_spanOf a_lineIndex a_placeIndex aL aP a_support a_value a_now a_left := by
  have hqd := QC.2.1 d hd
  intro n
  induction n with
  | zero =>
    intro k aL aP hk h1 h2
    have e : k = A := by omega
    subst e
    exact br_t (nI_le (Nat.le_refl _) (by omega)) (h aL aP h1)
  | succ n ih =>
    intro k aL aP hk h1 h2
    have hi6 : vp_in (nI k) 6 := vp_in_nI (by omega) (by omega)
    have hck : (nI k).toNatClampNeg = k := nI_clamp (by omega)
    obtain ⟨x1, x2, AC, PK⟩ := HA k (by omega)
    have AC' := AC
    obtain ⟨a1, a2, a3, a4, a5, a6, a7, a8, a9, a10, a11⟩ := AC
    have hl3 := sf_KK3 QC (Nat.le_refl _) a1
    have hp3 := sf_KK3 QC (Nat.le_refl _) a2
    have S := h2 k (Nat.le_refl _) (by omega)
    have next : ∀ z y : Int32, sf_SA (d + 1) q (li k) (pi k) (W k) (kl k) (kp k) (sf_un v (q d) x) z y → ∀ aL' aP' : Nat → Int32, aL' k = z → aP' k = y → (∀ a, a ≠ k → aL' a = aL a ∧ aP' a = aP a) → wX_moveTo_9 post (nI (q d)) (nI x) f_parts (nI A) f_height f_loops (n + 1) (nI (k + 1)) a_rankOf a_rows a_columns a_formatOf a_lines a_lineAt a_lineBegin a_placeAt a_numberAt a_kind a_number a_partA a_partB a_indexA a_indexB a_stack a_inside a_plain a_loopIndex a_spanOf a_lineIndex a_placeIndex aL' aP' a_support a_value a_now a_left := by
      intro z y hz aL' aP' e1 e2 e3
      refine ih (k + 1) _ _ (by omega) (fun a ha => ?_) (fun a ha hb => ?_)
      · by_cases e : a = k
        · subst e
          rw [e1, e2]
          exact hz
        · rw [(e3 a e).1, (e3 a e).2]
          exact h1 a (by omega)
      · rw [(e3 a (by omega)).1, (e3 a (by omega)).2]
        exact h2 a (by omega) hb
    have kk : ∀ p, sf_KK q (d + 1) p → p ≠ q d → sf_KK q d p := by
      intro p hp hne
      rcases hp with z | ⟨e, he, ee⟩
      · exact Or.inl z
      · by_cases c : e = d
        · rw [c] at ee
          exact absurd ee.symm hne
        · exact Or.inr ⟨e, by omega, ee⟩
    have vb := sf_vB QC AC' h3 (by omega) hv
    refine br_f (nI_ge (by omega) (by omega)) (nm_r (sf_a6 k) (And.intro hi6 ?_))
    rw [hck, x1]
    refine sf_pqn hl3 hqd.1 (fun w => ?_) (fun w => ?_)
    · have hpd : pi k ≠ q d := by
        intro z
        rcases a9 d hd z with z2 | ⟨e, he, ee⟩
        · omega
        · have := QC.2.2 e d (by omega) hd (ee.trans w)
          omega
      have fin : ∀ r : Int32, r = sf_lp (kl k) x → (vp_in (nI k) 6 ∧ ∀ a_atLine_86 : Nat → Int32, a_atLine_86 = upd aL k r → wX_moveTo_46 post (wX_moveTo_9 post (nI (q d)) (nI x) f_parts (nI A) f_height f_loops (n + 1)) (nI (q d)) (nI x) (nI k) (nI (6 + k)) f_parts (nI A) f_height f_loops a_rankOf a_rows a_columns a_formatOf a_lines a_lineAt a_lineBegin a_placeAt a_numberAt a_kind a_number a_partA a_partB a_indexA a_indexB a_stack a_inside a_plain a_loopIndex a_spanOf a_lineIndex a_placeIndex a_atLine_86 aP a_support a_value a_now a_left) := by
        intro r er
        refine And.intro hi6 (nm_e ?_)
        unfold wX_moveTo_46
        rw [hck, x2]
        refine And.intro hi6 (sf_pqn hp3 hqd.1 (fun w2 => absurd w2 hpd) (fun w2 => nm_r (nI_1 k) (next r (aP k) ⟨fun _ => ?_, fun hp => ?_⟩ _ _ pk_us rfl (fun a ha => ⟨pk_un ha, rfl⟩))))
        · rw [w, sf_us]
          exact er
        · exfalso
          rcases kk _ hp hpd with z | ⟨e, he, ee⟩
          · have := (a7 z).2
            omega
          · rcases a9 e (by omega) ee.symm with z2 | ⟨e2, he2, ee2⟩
            · omega
            · have := QC.2.2 e2 d (by omega) hd (ee2.trans w)
              omega
      have hxC : x < C k := by
        rw [a6 (by omega), w]
        exact hx
      exact sf_findLine (by omega) a3 PK hxC (fun k1 => fin _ (sf_lp_t k1).symm) (fun k1 => fin _ (sf_lp_f k1).symm)
    · unfold wX_moveTo_46
      rw [hck, x2]
      refine And.intro hi6 (sf_pqn hp3 hqd.1 (fun w2 => And.intro hi6 ?_) (fun w2 => nm_r (nI_1 k) (next _ _ ⟨fun hp => ?_, fun hp => ?_⟩ aL aP rfl rfl (fun a ha => ⟨rfl, rfl⟩))))
      · have kli := a9 d hd w2
        have s1 := S.1 kli
        have fin : ∀ r : Int32, r = sf_pp (kl k) (kp k) (W k) (v (li k)) x → wX_moveTo_9 post (nI (q d)) (nI x) f_parts (nI A) f_height f_loops (n + 1) (nI (k + 1)) a_rankOf a_rows a_columns a_formatOf a_lines a_lineAt a_lineBegin a_placeAt a_numberAt a_kind a_number a_partA a_partB a_indexA a_indexB a_stack a_inside a_plain a_loopIndex a_spanOf a_lineIndex a_placeIndex aL (upd aP k r) a_support a_value a_now a_left := by
          intro r er
          refine next (aL k) r ⟨fun hp => ?_, fun hp => ?_⟩ _ _ rfl pk_us (fun a ha => ⟨rfl, pk_un ha⟩)
          · rw [sf_ue w]
            exact s1
          · rw [sf_ue w, w2, sf_us]
            exact er
        have hxW : x < W k := by
          rw [a8 (by omega), w2]
          exact hx
        rw [s1]
        cases k1 : kl k (v (li k)) with
        | false =>
          rw [sf_lp_f k1]
          exact br_t rfl (And.intro hi6 (nm_e (nm_r (nI_1 k) (fin _ (sf_pp_f k1).symm))))
        | true =>
          have b1 := sf_cn_le (kl k) (v (li k))
          have b2 := vb.1 kli
          rw [sf_lp_t k1]
          refine br_f (sf_nm1 (by omega)) (And.intro hi6 ?_)
          exact sf_findPlace (by omega) a3 a4 PK b2 k1 hxW (fun k2 => And.intro hi6 (nm_e (nm_r (nI_1 k) (fin _ (sf_pp_t k1 k2).symm)))) (fun k2 => And.intro hi6 (nm_e (nm_r (nI_1 k) (fin _ (sf_pp_g k2).symm))))
      · rw [sf_ue w]
        exact S.1 (kk _ hp w)
      · rw [sf_ue w, sf_ue w2]
        exact S.2 (kk _ hp w2)
theorem sf_move {post : SX → Prop} {lx sp : Nat → Int32} (QC : sf_QC L q G lx sp) (hA : A ≤ 6) (HA : sf_HA A L q G li pi C W kl kp g a_lineIndex a_placeIndex a_lines a_lineAt a_lineBegin a_placeAt a_numberAt) {d x : Nat} (hd : d < L) {v : Nat → Nat} (h3 : v 3 = 0) (hv : ∀ e, e < d → v (q e) < G (q e)) (hx : x < G (q d))
    (S : ∀ a, a < A → sf_SA d q (li a) (pi a) (W a) (kl a) (kp a) v (a_atLine a) (a_atPlace a))
    (h : ∀ aL aP : Nat → Int32, (∀ a, a < A → sf_SA (d + 1) q (li a) (pi a) (W a) (kl a) (kp a) (sf_un v (q d) x) (aL a) (aP a)) → post (f_parts, (nI A), f_height, f_loops, a_rankOf, a_rows, a_columns, a_formatOf, a_lines, a_lineAt, a_lineBegin, a_placeAt, a_numberAt, a_kind, a_number, a_partA, a_partB, a_indexA, a_indexB, a_stack, a_inside, a_plain, a_loopIndex, a_spanOf, a_lineIndex, a_placeIndex, aL, aP, a_support, a_value, (upd a_now (q d) (nI x)), a_left)) : wpX_moveTo post (f_parts, (nI A), f_height, f_loops, a_rankOf, a_rows, a_columns, a_formatOf, a_lines, a_lineAt, a_lineBegin, a_placeAt, a_numberAt, a_kind, a_number, a_partA, a_partB, a_indexA, a_indexB, a_stack, a_inside, a_plain, a_loopIndex, a_spanOf, a_lineIndex, a_placeIndex, a_atLine, a_atPlace, a_support, a_value, a_now, a_left) (nI (q d)) (nI x) := by
  have hqd := QC.2.1 d hd
  unfold wpX_moveTo
  dsimp only
  rw [nI_clamp (n := q d) (by omega)]
  exact And.intro (vp_in_nI hqd.1 (by omega)) (nm_e ⟨A + 1, sf_mv_l QC hA HA hd h3 hv hx h A 0 _ _ (Nat.zero_add _) (fun a ha => absurd ha (Nat.not_lt_zero a)) (fun a _ ha => S a ha)⟩)
end
end
section
section
variable {f_parts f_arrays f_height f_loops : Int32} {a_rankOf a_rows a_columns a_formatOf a_lines a_lineAt a_lineBegin a_placeAt a_numberAt a_kind a_number a_partA a_partB a_indexA a_indexB a_stack a_inside a_plain a_loopIndex a_spanOf a_lineIndex a_placeIndex a_atLine a_atPlace a_support a_value a_now a_left : Nat → Int32} {A L P : Nat} {q G li pi C W kd ar sz : Nat → Nat} {kl : Nat → Nat → Bool} {kp : Nat → Nat → Nat → Bool} {g : Nat → Nat → Nat → Int32} {yk yn ys : Nat → Int32}
theorem sf_st_l {post : SX → Prop} {lx sp : Nat → Int32} (QC : sf_QC L q G lx sp) (hA : A ≤ 6) (HA : sf_HA A L q G li pi C W kl kp g a_lineIndex a_placeIndex a_lines a_lineAt a_lineBegin a_placeAt a_numberAt) {v : Nat → Nat} (h3 : v 3 = 0)
    (h : ∀ aL aP : Nat → Int32, (∀ a, a < A → sf_SA 0 q (li a) (pi a) (W a) (kl a) (kp a) v (aL a) (aP a)) → post (f_parts, (nI A), f_height, f_loops, a_rankOf, a_rows, a_columns, a_formatOf, a_lines, a_lineAt, a_lineBegin, a_placeAt, a_numberAt, a_kind, a_number, a_partA, a_partB, a_indexA, a_indexB, a_stack, a_inside, a_plain, a_loopIndex, a_spanOf, a_lineIndex, a_placeIndex, aL, aP, a_support, a_value, a_now, a_left)) :
    ∀ n k aL aP, k + n = A → (∀ a, a < k → sf_SA 0 q (li a) (pi a) (W a) (kl a) (kp a) v (aL a) (aP a)) → wX_startArrays_2 post f_parts (nI A) f_height f_loops (n + 1) (nI k) a_rankOf a_rows a_columns a_formatOf a_lines a_lineAt a_lineBegin a_placeAt a_numberAt a_kind a_number a_partA a_partB a_indexA a_indexB a_stack a_inside a_plain a_loopIndex a_spanOf a_lineIndex a_placeIndex aL aP a_support a_value a_now a_left := by
  intro n
  induction n with
  | zero =>
    intro k aL aP hk h1
    have e : k = A := by omega
    subst e
    exact br_t (nI_le (Nat.le_refl _) (by omega)) (h aL aP h1)
  | succ n ih =>
    intro k aL aP hk h1
    have hi6 : vp_in (nI k) 6 := vp_in_nI (by omega) (by omega)
    have hck : (nI k).toNatClampNeg = k := nI_clamp (by omega)
    obtain ⟨x1, x2, AC, PK⟩ := HA k (by omega)
    obtain ⟨a1, a2, a3, a4, a5, a6, a7, a8, a9, a10, a11⟩ := AC
    have hl3 := sf_KK3 QC (Nat.le_refl _) a1
    have hp3 := sf_KK3 QC (Nat.le_refl _) a2
    have k0 : ∀ p, sf_KK q 0 p → p = 3 := by
      intro p hp
      rcases hp with z | ⟨e, he, _⟩
      · exact z
      · omega
    have next : ∀ z y : Int32, sf_SA 0 q (li k) (pi k) (W k) (kl k) (kp k) v z y → wX_startArrays_2 post f_parts (nI A) f_height f_loops (n + 1) (nI (k + 1)) a_rankOf a_rows a_columns a_formatOf a_lines a_lineAt a_lineBegin a_placeAt a_numberAt a_kind a_number a_partA a_partB a_indexA a_indexB a_stack a_inside a_plain a_loopIndex a_spanOf a_lineIndex a_placeIndex (upd aL k z) (upd aP k y) a_support a_value a_now a_left := by
      intro z y hz
      refine ih (k + 1) _ _ (by omega) (fun a ha => ?_)
      by_cases e : a = k
      · subst e
        rw [pk_us, pk_us]
        exact hz
      · rw [pk_un e, pk_un e]
        exact h1 a (by omega)
    have e60 : ∀ z : Int32, (pi k ≠ 3) → sf_SA 0 q (li k) (pi k) (W k) (kl k) (kp k) v z (-1) → wX_startArrays_60 post (wX_startArrays_2 post f_parts (nI A) f_height f_loops (n + 1)) (nI k) 0 f_parts (nI A) f_height f_loops a_rankOf a_rows a_columns a_formatOf a_lines a_lineAt a_lineBegin a_placeAt a_numberAt a_kind a_number a_partA a_partB a_indexA a_indexB a_stack a_inside a_plain a_loopIndex a_spanOf a_lineIndex a_placeIndex (upd aL k z) aP a_support a_value a_now a_left := by
      intro z hne hz
      unfold wX_startArrays_60
      rw [hck]
      exact br_t rfl (And.intro hi6 (nm_e (nm_r (nI_1 k) (next z (-1) hz))))
    refine br_f (nI_ge (by omega) (by omega)) (And.intro hi6 ?_)
    rw [hck, x1]
    refine sf_pe hl3 (fun w => ?_) (fun w => ?_)
    · have t5 := a5 w
      have e0 : sf_lp (kl k) (v (li k)) = 0 := by
        rw [w, h3, sf_lp_t t5.2]
        rfl
      refine br_f (by decide) ?_
      unfold wX_startArrays_40
      rw [hck, x2]
      refine And.intro hi6 (nm_e (br_f (by decide) (And.intro hi6 (sf_pe hp3 (fun w2 => ?_) (fun w2 => ?_)))))
      · unfold wX_startArrays_60
        rw [hck, sf_a6]
        have fin : ∀ r : Int32, r = sf_pp (kl k) (kp k) (W k) 0 0 → (vp_in (nI k) 6 ∧ ∀ a_atPlace_46 : Nat → Int32, a_atPlace_46 = upd aP k r → ∀ x1_47 : Int32, x1_47 = nI k + 1 → wX_startArrays_2 post f_parts (nI A) f_height f_loops (n + 1) x1_47 a_rankOf a_rows a_columns a_formatOf a_lines a_lineAt a_lineBegin a_placeAt a_numberAt a_kind a_number a_partA a_partB a_indexA a_indexB a_stack a_inside a_plain a_loopIndex a_spanOf a_lineIndex a_placeIndex (upd aL k 0) a_atPlace_46 a_support a_value a_now a_left) := by
          intro r er
          refine And.intro hi6 (nm_e (nm_r (nI_1 k) (next 0 r ⟨fun _ => e0.symm, fun _ => ?_⟩)))
          rw [w, w2, h3]
          exact er
        exact br_f (by decide) (sf_findPlace (l := 0) (p := 0) (by omega) a3 a4 PK (by omega) t5.2 (by have := (a7 w2).1; omega) (fun k2 => fin _ (sf_pp_t t5.2 k2).symm) (fun k2 => fin _ (sf_pp_g k2).symm))
      · exact e60 0 (by omega) ⟨fun _ => e0.symm, fun z => absurd (k0 _ z) (by omega)⟩
    · refine br_t rfl ?_
      unfold wX_startArrays_40
      rw [hck]
      refine And.intro hi6 (nm_e (br_t rfl ?_))
      have hp : pi k ≠ 3 := fun z => by
        have := (a7 z).2
        omega
      exact e60 (-1) hp ⟨fun z => absurd (k0 _ z) (by omega), fun z => absurd (k0 _ z) hp⟩
theorem sf_start {post : SX → Prop} {lx sp : Nat → Int32} (QC : sf_QC L q G lx sp) (hA : A ≤ 6) (HA : sf_HA A L q G li pi C W kl kp g a_lineIndex a_placeIndex a_lines a_lineAt a_lineBegin a_placeAt a_numberAt) {v : Nat → Nat} (h3 : v 3 = 0)
    (h : ∀ aL aP : Nat → Int32, (∀ a, a < A → sf_SA 0 q (li a) (pi a) (W a) (kl a) (kp a) v (aL a) (aP a)) → post (f_parts, (nI A), f_height, f_loops, a_rankOf, a_rows, a_columns, a_formatOf, a_lines, a_lineAt, a_lineBegin, a_placeAt, a_numberAt, a_kind, a_number, a_partA, a_partB, a_indexA, a_indexB, a_stack, a_inside, a_plain, a_loopIndex, a_spanOf, a_lineIndex, a_placeIndex, aL, aP, a_support, a_value, a_now, a_left)) : wpX_startArrays post (f_parts, (nI A), f_height, f_loops, a_rankOf, a_rows, a_columns, a_formatOf, a_lines, a_lineAt, a_lineBegin, a_placeAt, a_numberAt, a_kind, a_number, a_partA, a_partB, a_indexA, a_indexB, a_stack, a_inside, a_plain, a_loopIndex, a_spanOf, a_lineIndex, a_placeIndex, a_atLine, a_atPlace, a_support, a_value, a_now, a_left) := by
  unfold wpX_startArrays
  exact ⟨A + 1, sf_st_l QC hA HA h3 h A 0 _ _ (Nat.zero_add _) (fun a ha => absurd ha (Nat.not_lt_zero a))⟩
theorem sf_arrVal {post : Int32 → Prop} {lx sp : Nat → Int32} (QC : sf_QC L q G lx sp) (hA : A ≤ 6) (HA : sf_HA A L q G li pi C W kl kp g a_lineIndex a_placeIndex a_lines a_lineAt a_lineBegin a_placeAt a_numberAt) {v : Nat → Nat} (h3 : v 3 = 0) (hv : ∀ e, e < L → v (q e) < G (q e))
    {a : Nat} (ha : a < A) (S : sf_SA L q (li a) (pi a) (W a) (kl a) (kp a) v (a_atLine a) (a_atPlace a)) (h : post (g a (v (li a)) (v (pi a)))) : wpX_arrayValue post (f_parts, f_arrays, f_height, f_loops, a_rankOf, a_rows, a_columns, a_formatOf, a_lines, a_lineAt, a_lineBegin, a_placeAt, a_numberAt, a_kind, a_number, a_partA, a_partB, a_indexA, a_indexB, a_stack, a_inside, a_plain, a_loopIndex, a_spanOf, a_lineIndex, a_placeIndex, a_atLine, a_atPlace, a_support, a_value, a_now, a_left) (nI a) := by
  have hi6 : vp_in (nI a) 6 := vp_in_nI (by omega) (by omega)
  have hca : (nI a).toNatClampNeg = a := nI_clamp (by omega)
  obtain ⟨x1, x2, AC, PK⟩ := HA a ha
  have vb := sf_vB QC AC h3 (Nat.le_refl _) hv
  obtain ⟨a1, a2, a3, a4, a5, a6, a7, a8, a9, a10, a11⟩ := AC
  unfold wpX_arrayValue
  dsimp only
  rw [hca, S.2 a2]
  cases k1 : kl a (v (li a)) with
  | false =>
    rw [sf_pp_f k1]
    rw [a10 _ k1 _ (vb.2 a2)] at h
    exact And.intro hi6 (br_t rfl h)
  | true =>
    cases k2 : kp a (v (li a)) (v (pi a)) with
    | false =>
      rw [sf_pp_g k2]
      rw [a11 _ _ k2] at h
      exact And.intro hi6 (br_t rfl h)
    | true =>
      have q36 := sf_pos36 (kl := kl a) (kp := kp a) a3 a4 (vb.1 a1) k1 (vb.2 a2) k2
      rw [sf_pp_t k1 k2, sf_a6, sf_36, nI_clamp (by omega), ((PK.2.2 _ (vb.1 a1) k1).2 _ (vb.2 a2) k2).2]
      exact And.intro hi6 (br_f (sf_nm1 (by omega)) (And.intro hi6 (And.intro (vp_in_nI (by omega) (by omega)) h)))
theorem sf_fv_l {post : Int32 → SX → Prop} {lx sp : Nat → Int32} (T : sf_TR P kd sz) (D : sf_PD P A kd ar sz a_kind a_number a_partA a_partB yk yn ys) (hP : P ≤ 20) (h0 : 0 < P) (hin : ∀ p, p < P → ¬ a_inside p = 0)
    (QC : sf_QC L q G lx sp) (hA : A ≤ 6) (HA : sf_HA A L q G li pi C W kl kp g a_lineIndex a_placeIndex a_lines a_lineAt a_lineBegin a_placeAt a_numberAt) {v : Nat → Nat} (h3 : v 3 = 0) (hv : ∀ e, e < L → v (q e) < G (q e))
    (S : ∀ a, a < A → sf_SA L q (li a) (pi a) (W a) (kl a) (kp a) v (a_atLine a) (a_atPlace a))
    (h : ∀ va : Nat → Int32, post (sf_VV kd ar sz yn g li pi v (P - 1)) (f_parts, f_arrays, f_height, f_loops, a_rankOf, a_rows, a_columns, a_formatOf, a_lines, a_lineAt, a_lineBegin, a_placeAt, a_numberAt, a_kind, a_number, a_partA, a_partB, a_indexA, a_indexB, a_stack, a_inside, a_plain, a_loopIndex, a_spanOf, a_lineIndex, a_placeIndex, a_atLine, a_atPlace, a_support, va, a_now, a_left)) :
    ∀ n k va, k + n = P → (∀ i, i < k → va i = sf_VV kd ar sz yn g li pi v i) → wX_findValue_2 post (nI (P - 1)) f_parts f_arrays f_height f_loops (n + 1) (nI k) a_rankOf a_rows a_columns a_formatOf a_lines a_lineAt a_lineBegin a_placeAt a_numberAt a_kind a_number a_partA a_partB a_indexA a_indexB a_stack a_inside a_plain a_loopIndex a_spanOf a_lineIndex a_placeIndex a_atLine a_atPlace a_support va a_now a_left := by
  intro n
  induction n with
  | zero =>
    intro k va hk hs
    have e : k = P := by omega
    subst e
    refine br_t (nI_lt (by omega) (by omega)) (And.intro (vp_in_nI (by omega) (by omega)) ?_)
    rw [nI_clamp (by omega), hs _ (by omega)]
    exact h va
  | succ n ih =>
    intro k va hk hs
    have hi : vp_in (nI k) 20 := vp_in_nI (by omega) (by omega)
    have hc : (nI k).toNatClampNeg = k := nI_clamp (by omega)
    obtain ⟨d1, d2, d3, d4⟩ := D k (by omega)
    have t := (T k (by omega)).2.2
    have next : ∀ B : Int32, B = sf_VV kd ar sz yn g li pi v k → wX_findValue_2 post (nI (P - 1)) f_parts f_arrays f_height f_loops (n + 1) (nI (k + 1)) a_rankOf a_rows a_columns a_formatOf a_lines a_lineAt a_lineBegin a_placeAt a_numberAt a_kind a_number a_partA a_partB a_indexA a_indexB a_stack a_inside a_plain a_loopIndex a_spanOf a_lineIndex a_placeIndex a_atLine a_atPlace a_support (upd va k B) a_now a_left := by
      intro B hB
      refine ih (k + 1) _ (by omega) (fun i hi2 => ?_)
      by_cases e : i = k
      · rw [e, pk_us]
        exact hB
      · rw [pk_un e]
        exact hs i (by omega)
    refine br_f (nI_nlt (by omega) (by omega)) (And.intro hi ?_)
    rw [hc, d1]
    refine br_f (hin k (by omega)) (And.intro hi (nm_e ?_))
    refine pk_eq (kd k) 0 (fun e => And.intro hi ?_) (fun e => pk_eq (kd k) 1 (fun e1 => And.intro hi ?_) (fun e1 => pk_eq (kd k) 2 (fun e2 => And.intro hi ?_) (fun e2 => pk_eq (kd k) 3 (fun e3 => And.intro hi ?_) (fun e3 => pk_eq (kd k) 4 (fun e4 => And.intro hi ?_) (fun e4 => And.intro hi ?_)))))
    · have ev : a_number k = yn k := by
        rcases d4 with ⟨f0, f1, _⟩ | ⟨f0, _⟩ | ⟨f0, _⟩ | ⟨f0, _⟩
        · exact f1
        · omega
        · omega
        · omega
      refine And.intro hi (nm_e (nm_r (nI_1 k) (next _ ?_)))
      rw [sf_VV_eq T (by omega), sf_op0 e, ev]
    · rcases d4 with ⟨f0, _⟩ | ⟨f0, f1, f2, _⟩ | ⟨f0, _⟩ | ⟨f0, _⟩
      · omega
      · rw [f2]
        refine sf_arrVal QC hA HA h3 hv f1 (S _ f1) (And.intro hi (nm_e (nm_r (nI_1 k) (next _ ?_))))
        rw [sf_VV_eq T (by omega), sf_op1 e1]
      · omega
      · omega
    · rcases d4 with ⟨f0, _⟩ | ⟨f0, _⟩ | ⟨f0, f1, f2⟩ | ⟨f0, _⟩
      · omega
      · omega
      · rw [f1, nI_clamp (by omega), hs (k - 1) (by omega)]
        refine And.intro (vp_in_nI (by omega) (by omega)) (And.intro hi (nm_e (nm_r (nI_1 k) (next _ ?_))))
        rw [sf_VV_eq T (show k < P by omega), sf_op2 e2]
      · omega
    · rcases d4 with ⟨f0, _⟩ | ⟨f0, _⟩ | ⟨f0, _⟩ | ⟨f0, f1, f2, f3⟩
      · omega
      · omega
      · omega
      · rw [f2, f3, nI_clamp (by omega), nI_clamp (by omega), hs (k - 1) (by omega), hs (k - 1 - sz (k - 1)) (by omega)]
        refine And.intro (vp_in_nI (by omega) (by omega)) (And.intro hi (And.intro (vp_in_nI (by omega) (by omega)) (And.intro hi (nm_e (nm_r (nI_1 k) (next _ ?_))))))
        rw [sf_VV_eq T (show k < P by omega), sf_op3 e3]
    · rcases d4 with ⟨f0, _⟩ | ⟨f0, _⟩ | ⟨f0, _⟩ | ⟨f0, f1, f2, f3⟩
      · omega
      · omega
      · omega
      · rw [f2, f3, nI_clamp (by omega), nI_clamp (by omega), hs (k - 1) (by omega), hs (k - 1 - sz (k - 1)) (by omega)]
        refine And.intro (vp_in_nI (by omega) (by omega)) (And.intro hi (And.intro (vp_in_nI (by omega) (by omega)) (And.intro hi (nm_e (nm_r (nI_1 k) (next _ ?_))))))
        rw [sf_VV_eq T (show k < P by omega), sf_op4 e4]
    · rcases d4 with ⟨f0, _⟩ | ⟨f0, _⟩ | ⟨f0, _⟩ | ⟨f0, f1, f2, f3⟩
      · omega
      · omega
      · omega
      · rw [f2, f3, nI_clamp (by omega), nI_clamp (by omega), hs (k - 1) (by omega), hs (k - 1 - sz (k - 1)) (by omega)]
        refine And.intro (vp_in_nI (by omega) (by omega)) (And.intro hi (And.intro (vp_in_nI (by omega) (by omega)) (And.intro hi (nm_e (nm_r (nI_1 k) (next _ ?_))))))
        rw [sf_VV_eq T (show k < P by omega), sf_op5 (by omega)]
theorem sf_addVal {post : SX → Prop} {lx sp : Nat → Int32} (T : sf_TR P kd sz) (D : sf_PD P A kd ar sz a_kind a_number a_partA a_partB yk yn ys) (hP : P ≤ 20) (h0 : 0 < P) (hin : ∀ p, p < P → ¬ a_inside p = 0)
    (QC : sf_QC L q G lx sp) (hA : A ≤ 6) (HA : sf_HA A L q G li pi C W kl kp g a_lineIndex a_placeIndex a_lines a_lineAt a_lineBegin a_placeAt a_numberAt) {v : Nat → Nat} (h3 : v 3 = 0) (hv : ∀ e, e < L → v (q e) < G (q e))
    (S : ∀ a, a < A → sf_SA L q (li a) (pi a) (W a) (kl a) (kp a) v (a_atLine a) (a_atPlace a)) (hnow : ∀ e, e < L → a_now (q e) = nI (v (q e))) {i j : Nat} (hi : sf_KK q L i) (hj : sf_KK q L j)
    (h : ∀ va : Nat → Int32, post (f_parts, f_arrays, f_height, f_loops, a_rankOf, a_rows, a_columns, a_formatOf, a_lines, a_lineAt, a_lineBegin, a_placeAt, a_numberAt, a_kind, a_number, a_partA, a_partB, a_indexA, a_indexB, a_stack, a_inside, (upd a_plain (6 * v i + v j) (a_plain (6 * v i + v j) + sf_VV kd ar sz yn g li pi v (P - 1))), a_loopIndex, a_spanOf, a_lineIndex, a_placeIndex, a_atLine, a_atPlace, a_support, va, a_now, a_left)) : wpX_addValue post (f_parts, f_arrays, f_height, f_loops, a_rankOf, a_rows, a_columns, a_formatOf, a_lines, a_lineAt, a_lineBegin, a_placeAt, a_numberAt, a_kind, a_number, a_partA, a_partB, a_indexA, a_indexB, a_stack, a_inside, a_plain, a_loopIndex, a_spanOf, a_lineIndex, a_placeIndex, a_atLine, a_atPlace, a_support, a_value, a_now, a_left) (nI (P - 1)) (sf_eI i) (sf_eI j) := by
  have hi3 := sf_KK3 QC (Nat.le_refl _) hi
  have hj3 := sf_KK3 QC (Nat.le_refl _) hj
  have vl : ∀ p, sf_KK q L p → v p < 6 := by
    intro p hp
    rcases hp with z | ⟨e, he, ee⟩
    · rw [z, h3]
      omega
    · have := hv e he
      have := (QC.2.1 e he).2.2.2.1
      rw [ee] at *
      omega
  have vi := vl i hi
  have vj := vl j hj
  have nw : ∀ p, sf_KK q L p → p < 3 → a_now p = nI (v p) := by
    intro p hp hlt
    rcases hp with z | ⟨e, he, ee⟩
    · omega
    · rw [← ee]
      exact hnow e he
  have k33 : ∀ z0 z1 : Int32, z0 = nI (v j) → z1 = nI (6 * v i) → wX_addValue_33 post (nI (P - 1)) z0 z1 f_parts f_arrays f_height f_loops a_rankOf a_rows a_columns a_formatOf a_lines a_lineAt a_lineBegin a_placeAt a_numberAt a_kind a_number a_partA a_partB a_indexA a_indexB a_stack a_inside a_plain a_loopIndex a_spanOf a_lineIndex a_placeIndex a_atLine a_atPlace a_support a_value a_now a_left := by
    intro z0 z1 e0 e1
    subst e0 e1
    unfold wX_addValue_33
    refine nm_r (nI_add _ _) ?_
    rw [nI_clamp (by omega)]
    have hin36 : vp_in (nI (6 * v i + v j)) 36 := vp_in_nI (by omega) (by omega)
    refine And.intro hin36 ?_
    unfold wpX_findValue
    refine ⟨P + 1, sf_fv_l T D hP h0 hin QC hA HA h3 hv S (fun va => ?_) P 0 _ (Nat.zero_add _) (fun i hi => absurd hi (Nat.not_lt_zero i))⟩
    dsimp only
    exact And.intro hin36 (nm_e (h va))
  have k17 : ∀ z0 : Int32, z0 = nI (v i) → wX_addValue_17 post (nI (P - 1)) (sf_eI j) z0 6 f_parts f_arrays f_height f_loops a_rankOf a_rows a_columns a_formatOf a_lines a_lineAt a_lineBegin a_placeAt a_numberAt a_kind a_number a_partA a_partB a_indexA a_indexB a_stack a_inside a_plain a_loopIndex a_spanOf a_lineIndex a_placeIndex a_atLine a_atPlace a_support a_value a_now a_left := by
    intro z0 e0
    subst e0
    unfold wX_addValue_17
    refine sf_pe hj3 (fun w => k33 _ _ ?_ (sf_6m _)) (fun w => ?_)
    · rw [w, h3]
      rfl
    · rw [sf_eI_l w, nI_clamp (by omega)]
      exact And.intro (vp_in_nI w (by omega)) (k33 _ _ (nw j hj w) (sf_6m _))
  unfold wpX_addValue
  dsimp only
  refine sf_pe hi3 (fun w => k17 _ ?_) (fun w => ?_)
  · rw [w, h3]
    rfl
  · rw [sf_eI_l w, nI_clamp (by omega)]
    exact And.intro (vp_in_nI w (by omega)) (k17 _ (nw i hi w))
end
end
section
def sf_Kc : Nat → Nat
  | 0 => 0
  | 1 => 1
  | m + 2 => 2 + 6 * sf_Kc (m + 1)
def sf_mu (L : Nat) (lf : Nat → Int32) (D : Nat) : Nat := sf_sn (fun e => 1 + sf_cn (bt (lf e)) 6 * sf_Kc (L - e)) D
theorem sf_cn_rm {f f' : Nat → Bool} {x : Nat} (hf : f x = true) : ∀ n, (∀ y, y < n → f' y = (f y && !decide (y = x))) → sf_cn f n = sf_cn f' n + (if x < n then 1 else 0)
  | 0, _ => rfl
  | n + 1, h => by
    have ih := sf_cn_rm hf n (fun y hy => h y (by omega))
    have e := h n (by omega)
    by_cases z : n = x
    · rw [z] at e
      rw [decide_eq_true rfl, Bool.not_true, Bool.and_false] at e
      rw [z] at ih ⊢
      rw [sf_cn_t hf, sf_cn_f e, ih, if_neg (by omega), if_pos (by omega)]
    · rw [decide_eq_false z, Bool.not_false, Bool.and_true] at e
      have c2 : (if x < n then 1 else 0) = (if x < n + 1 then 1 else 0) := by
        by_cases l : x < n
        · rw [if_pos l, if_pos (by omega)]
        · rw [if_neg l, if_neg (by omega)]
      rw [← c2]
      cases c : f n with
      | true =>
        rw [c] at e
        rw [sf_cn_t c, sf_cn_t e, ih]
        omega
      | false =>
        rw [c] at e
        rw [sf_cn_f c, sf_cn_f e, ih]
theorem sf_KKm {q : Nat → Nat} {d e p : Nat} (h : d ≤ e) (k : sf_KK q d p) : sf_KK q e p := by
  rcases k with z | ⟨x, hx, ex⟩
  · exact Or.inl z
  · exact Or.inr ⟨x, by omega, ex⟩
theorem sf_SAm {q : Nat → Nat} {d e li pi W : Nat} {kl : Nat → Bool} {kp : Nat → Nat → Bool} {v : Nat → Nat} {x y : Int32} (h : d ≤ e) (S : sf_SA e q li pi W kl kp v x y) : sf_SA d q li pi W kl kp v x y :=
  ⟨fun k => S.1 (sf_KKm h k), fun k => S.2 (sf_KKm h k)⟩
/-- the formula's share of place k -/
def sf_FF (kd ar sz : Nat → Nat) (yn : Nat → Int32) (g : Nat → Nat → Nat → Int32) (li pi : Nat → Nat) (P i j k : Nat) (v : Nat → Nat) : Int32 := if 6 * v i + v j = k then sf_VV kd ar sz yn g li pi v (P - 1) else 0
def sf_PT (F : (Nat → Nat) → Int32) (G q : Nat → Nat) (L : Nat) (lf : Nat → Int32) (v : Nat → Nat) (D : Nat) : Int32 := sf_sm (fun e => sf_TE F G q L (lf e) v e) D
theorem sf_PT_c {F : (Nat → Nat) → Int32} {G q : Nat → Nat} {L : Nat} (hF : ∀ v w : Nat → Nat, (∀ p, sf_KK q L p → v p = w p) → F v = F w) {lf lf' : Nat → Int32} {v w : Nat → Nat} {D : Nat} (h3 : v 3 = w 3) (h : ∀ d, d + 1 < D → v (q d) = w (q d)) (hl : ∀ e, e < D → lf e = lf' e) : sf_PT F G q L lf v D = sf_PT F G q L lf' w D := by
  refine sf_sm_congr D (fun e he => ?_)
  rw [hl e he]
  exact sf_TE_c hF h3 (fun d hd => h d (by omega))
theorem sf_nz_bit {B : Int32} (h : ¬ B = 0) : ∃ y, y < 32 ∧ bt B y = true := by
  refine Classical.byContradiction (fun w => h (b_ext (fun i hi => ?_)))
  rw [b_0]
  cases c : bt B i with
  | false => rfl
  | true => exact absurd ⟨i, hi, c⟩ w
section
variable {f_parts f_arrays f_height f_loops : Int32} {a_rankOf a_rows a_columns a_formatOf a_lines a_lineAt a_lineBegin a_placeAt a_numberAt a_kind a_number a_partA a_partB a_indexA a_indexB a_stack a_inside a_plain a_loopIndex a_spanOf a_lineIndex a_placeIndex a_atLine a_atPlace a_support a_value a_now a_left : Nat → Int32} {A L P : Nat} {q G li pi C W kd ar sz : Nat → Nat} {kl : Nat → Nat → Bool} {kp : Nat → Nat → Nat → Bool} {g : Nat → Nat → Nat → Int32} {yk yn ys : Nat → Int32}
theorem sf_FF_c (T : sf_TR P kd sz) (D : sf_PD P A kd ar sz a_kind a_number a_partA a_partB yk yn ys) (h0 : 0 < P) (hK : ∀ a, a < A → sf_KK q L (li a) ∧ sf_KK q L (pi a)) {i j : Nat} (hi : sf_KK q L i) (hj : sf_KK q L j) (k : Nat) (v w : Nat → Nat) (h : ∀ p, sf_KK q L p → v p = w p) :
    sf_FF kd ar sz yn g li pi P i j k v = sf_FF kd ar sz yn g li pi P i j k w := by
  unfold sf_FF
  rw [h i hi, h j hj]
  have e : sf_VV kd ar sz yn g li pi v (P - 1) = sf_VV kd ar sz yn g li pi w (P - 1) := by
    refine sf_V_c T (fun p hp h1 => ?_) P (P - 1) (by omega) (by omega)
    obtain ⟨_, _, _, d4⟩ := D p hp
    rcases d4 with ⟨f0, _⟩ | ⟨f0, f1, _⟩ | ⟨f0, _⟩ | ⟨f0, _⟩
    · omega
    · rw [h _ (hK _ f1).1, h _ (hK _ f1).2]
    · omega
    · omega
  rw [e]
theorem sf_wo35 {post : SX → Prop} (T : sf_TR P kd sz) (DD : sf_PD P A kd ar sz a_kind a_number a_partA a_partB yk yn ys) (hP : P ≤ 20) (h0 : 0 < P) (hin : ∀ p, p < P → ¬ a_inside p = 0)
    (QC : sf_QC L q G a_loopIndex a_spanOf) (hA : A ≤ 6) (HA : sf_HA A L q G li pi C W kl kp g a_lineIndex a_placeIndex a_lines a_lineAt a_lineBegin a_placeAt a_numberAt) {i j : Nat} (hi : sf_KK q L i) (hj : sf_KK q L j) {Tot : Nat → Int32}
    (h : ∀ (pl aL aP su va nw lf : Nat → Int32), (∀ k, k < 36 → pl k = Tot k) → post (f_parts, (nI A), f_height, (nI L), a_rankOf, a_rows, a_columns, a_formatOf, a_lines, a_lineAt, a_lineBegin, a_placeAt, a_numberAt, a_kind, a_number, a_partA, a_partB, a_indexA, a_indexB, a_stack, a_inside, pl, a_loopIndex, a_spanOf, a_lineIndex, a_placeIndex, aL, aP, su, va, nw, lf)) :
    ∀ n D r v pl aL aP su va nw lf, sf_mu L lf D < n → r + sf_mu L lf D ≤ 301 → D ≤ L → v 3 = 0 → (∀ e, e + 1 < D → v (q e) < G (q e) ∧ nw (q e) = nI (v (q e))) →
      (∀ a, a < A → sf_SA (D - 1) q (li a) (pi a) (W a) (kl a) (kp a) v (aL a) (aP a)) → (∀ e, e < D → ∀ y, y < 32 → bt (lf e) y = true → y < G (q e)) →
      (∀ k, k < 36 → pl k + sf_PT (sf_FF kd ar sz yn g li pi P i j k) G q L lf v D = Tot k) →
      wX_workOut_35 post (nI (P - 1)) (sf_eI i) (sf_eI j) n (nI D - 1) (nI r) f_parts (nI A) f_height (nI L) a_rankOf a_rows a_columns a_formatOf a_lines a_lineAt a_lineBegin a_placeAt a_numberAt a_kind a_number a_partA a_partB a_indexA a_indexB a_stack a_inside pl a_loopIndex a_spanOf a_lineIndex a_placeIndex aL aP su va nw lf := by
  have hL := QC.1
  have hK : ∀ a, a < A → sf_KK q L (li a) ∧ sf_KK q L (pi a) := fun a ha => ⟨(HA a ha).2.2.1.1, (HA a ha).2.2.1.2.1⟩
  have hFF : ∀ k (v w : Nat → Nat), (∀ p, sf_KK q L p → v p = w p) → sf_FF kd ar sz yn g li pi P i j k v = sf_FF kd ar sz yn g li pi P i j k w := fun k v w hvw => sf_FF_c T DD h0 hK hi hj k v w hvw
  intro n
  induction n with
  | zero => intro D r v pl aL aP su va nw lf h1; omega
  | succ n ih =>
    intro D r v pl aL aP su va nw lf h1 h2 h3 h4 h5 h6 h7 h8
    have hr : ¬ (1000 : Int32) ≤ nI r := nI_ge (b := 1000) (by omega) (by omega)
    rcases Nat.eq_zero_or_pos D with eD | eD
    · subst eD
      refine br_f hr (br_t (by decide) (h _ _ _ _ _ _ _ (fun k hk => ?_)))
      have := h8 k hk
      rw [← this]
      show pl k = pl k + 0
      rw [Int32.add_zero]
    · obtain ⟨d, rfl⟩ : ∃ d, D = d + 1 := ⟨D - 1, by omega⟩
      have hi3 : vp_in (nI d) 3 := vp_in_nI (by omega) (by omega)
      have hcd : (nI d).toNatClampNeg = d := nI_clamp (by omega)
      have qd := QC.2.1 d (by omega)
      rw [show d + 1 - 1 = d by omega] at h6
      have emu : sf_mu L lf (d + 1) = sf_mu L lf d + (1 + sf_cn (bt (lf d)) 6 * sf_Kc (L - d)) := rfl
      rw [nI_pred]
      refine br_f hr (br_f (nI_pos (by omega)) (And.intro hi3 ?_))
      rw [hcd]
      refine br_c (fun z => ?_) (fun z => And.intro hi3 ?_)
      · refine nm_r (sf_dm d) (nm_r (nI_1 r) (ih d (r + 1) v _ _ _ _ _ _ _ (by omega) (by omega) (by omega) h4 (fun e he => h5 e (by omega)) (fun a ha => sf_SAm (by omega) (h6 a ha)) (fun e he => h7 e (by omega)) (fun k hk => ?_)))
        rw [← h8 k hk]
        show _ = pl k + (sf_PT _ G q L lf v d + sf_TE _ G q L (lf d) v d)
        rw [z, sf_TE_0, Int32.add_zero]
      · obtain ⟨y, hy, hby⟩ := sf_nz_bit z
        have hyG := h7 d (by omega) y hy hby
        refine sf_lowest ⟨y, by omega, hby⟩ (fun x hx hbx => And.intro hi3 (And.intro hi3 ?_))
        have hxG := h7 d (by omega) x (by omega) hbx
        have qne : ∀ e, e < d → q e ≠ q d := fun e he w => by
          have := QC.2.2 e d (by omega) (by omega) w
          omega
        have q3 : (3 : Nat) ≠ q d := by omega
        have hv' : ∀ e, e < d → sf_un v (q d) x (q e) = v (q e) := fun e he => sf_ue (qne e he)
        have hvb : ∀ e, e < d + 1 → sf_un v (q d) x (q e) < G (q e) := by
          intro e he
          by_cases c : e = d
          · rw [c, sf_us]
            exact hxG
          · rw [hv' e (by omega)]
            exact (h5 e (by omega)).1
        have hv3 : sf_un v (q d) x 3 = 0 := (sf_ue q3).trans h4
        rw [qd.2.1]
        refine nm_e (And.intro hi3 (sf_move QC hA HA (by omega) h4 (fun e he => (h5 e (by omega)).1) hxG h6 (fun aL' aP' S' => ?_)))
        have hn' : ∀ e, e < d + 1 → upd nw (q d) (nI x) (q e) = nI (sf_un v (q d) x (q e)) := by
          intro e he
          by_cases c : e = d
          · rw [c, pk_us, sf_us]
          · rw [pk_un (qne e (by omega)), hv' e (by omega)]
            exact (h5 e (by omega)).2
        have hbits : ∀ y, y < 32 → bt (lf d &&& (((1 : Int32) <<< (nI x &&& 31)) ^^^ (-1))) y = (bt (lf d) y && !decide (y = x)) := fun y hy => sf_clr _ (by omega) hy
        generalize hB1 : lf d &&& (((1 : Int32) <<< (nI x &&& 31)) ^^^ (-1)) = B1 at hbits ⊢
        have hcnt : sf_cn (bt (lf d)) 6 = sf_cn (bt B1) 6 + 1 := by
          rw [sf_cn_rm (x := x) hbx 6 (fun y hy => hbits y (by omega)), if_pos hx]
        have emu1 : sf_mu L (upd lf d B1) d = sf_mu L lf d := sf_sn_congr d (fun e he => by rw [pk_un (by omega)])
        have emu2 : sf_mu L (upd lf d B1) (d + 1) = sf_mu L lf d + (1 + sf_cn (bt B1) 6 * sf_Kc (L - d)) := by
          show sf_mu L (upd lf d B1) d + (1 + sf_cn (bt (upd lf d B1 d)) 6 * sf_Kc (L - d)) = _
          rw [emu1, pk_us]
        have h7' : ∀ e, e < d + 1 → ∀ y, y < 32 → bt (upd lf d B1 e) y = true → y < G (q e) := by
          intro e he y hy hb
          by_cases c : e = d
          · rw [c, pk_us, hbits y hy, Bool.and_eq_true] at hb
            rw [c]
            exact h7 d (by omega) y hy hb.1
          · rw [pk_un c] at hb
            exact h7 e he y hy hb
        have tot : ∀ k, k < 36 → (pl k + sf_SS (sf_FF kd ar sz yn g li pi P i j k) G (sf_ls q (d + 1) (L - (d + 1))) (sf_un v (q d) x)) + sf_PT (sf_FF kd ar sz yn g li pi P i j k) G q L (upd lf d B1) (sf_un v (q d) x) (d + 1) = Tot k := by
          intro k hk
          rw [← h8 k hk]
          have p1 : sf_PT (sf_FF kd ar sz yn g li pi P i j k) G q L lf v (d + 1) = sf_PT (sf_FF kd ar sz yn g li pi P i j k) G q L lf v d + sf_TE (sf_FF kd ar sz yn g li pi P i j k) G q L (lf d) v d := rfl
          have p2 : sf_PT (sf_FF kd ar sz yn g li pi P i j k) G q L (upd lf d B1) (sf_un v (q d) x) (d + 1) = sf_PT (sf_FF kd ar sz yn g li pi P i j k) G q L (upd lf d B1) (sf_un v (q d) x) d + sf_TE (sf_FF kd ar sz yn g li pi P i j k) G q L (upd lf d B1 d) (sf_un v (q d) x) d := rfl
          have p3 : sf_PT (sf_FF kd ar sz yn g li pi P i j k) G q L (upd lf d B1) (sf_un v (q d) x) d = sf_PT (sf_FF kd ar sz yn g li pi P i j k) G q L lf v d := sf_PT_c (hFF k) (by rw [hv3, h4]) (fun e he => hv' e (by omega)) (fun e he => pk_un (by omega))
          have p4 : sf_TE (sf_FF kd ar sz yn g li pi P i j k) G q L B1 (sf_un v (q d) x) d = sf_TE (sf_FF kd ar sz yn g li pi P i j k) G q L B1 v d := sf_TE_c (hFF k) (by rw [hv3, h4]) (fun e he => hv' e (by omega))
          have p5 := sf_TE_take (F := sf_FF kd ar sz yn g li pi P i j k) (G := G) (q := q) (L := L) (v := v) (e := d) hx hbx (fun y hy => hbits y (by omega))
          rw [p1, p2, p3, pk_us, p4, p5]
          generalize sf_PT (sf_FF kd ar sz yn g li pi P i j k) G q L lf v d = X1
          generalize sf_TE (sf_FF kd ar sz yn g li pi P i j k) G q L B1 v d = X2
          generalize sf_SS (sf_FF kd ar sz yn g li pi P i j k) G (sf_ls q (d + 1) (L - (d + 1))) (sf_un v (q d) x) = X3
          rw [Int32.add_assoc, Int32.add_comm X3, Int32.add_assoc X1]
        dsimp only
        rw [nI_1]
        refine pk_eq (d + 1) L (fun e => ?_) (fun e => ?_)
        · subst e
          refine sf_addVal T DD hP h0 hin QC hA HA hv3 hvb S' hn' hi hj (fun va' => nm_r (nI_1 r) ?_)
          have ek : sf_Kc (d + 1 - d) = 1 := by
            rw [show d + 1 - d = 1 by omega]
            rfl
          rw [ek] at emu emu2
          have k := ih (d + 1) (r + 1) (sf_un v (q d) x) (upd pl (6 * sf_un v (q d) x i + sf_un v (q d) x j) (pl (6 * sf_un v (q d) x i + sf_un v (q d) x j) + sf_VV kd ar sz yn g li pi (sf_un v (q d) x) (P - 1))) aL' aP' su va' (upd nw (q d) (nI x)) (upd lf d B1) (by omega) (by omega) (by omega) hv3 (fun e he => ⟨hvb e (by omega), hn' e (by omega)⟩) (fun a ha => sf_SAm (by omega) (S' a ha)) h7' (fun k hk => ?_)
          · rw [nI_pred] at k
            exact k
          · rw [← tot k hk]
            congr 1
            rw [show d + 1 - (d + 1) = 0 by omega]
            show _ = pl k + sf_FF kd ar sz yn g li pi P i j k (sf_un v (q d) x)
            unfold sf_FF
            by_cases c : k = 6 * sf_un v (q d) x i + sf_un v (q d) x j
            · rw [if_pos c.symm, c, pk_us]
            · rw [pk_un c, if_neg (fun w => c w.symm), Int32.add_zero]
        · refine nm_e ?_
          refine sf_enter T DD hP h0 hin QC hA HA (by omega) hv3 hvb S' (fun su' B B' hS hB' => nm_r (nI_1 r) ?_)
          have qD := QC.2.1 (d + 1) (by omega)
          have ek : sf_Kc (L - d) = 2 + 6 * sf_Kc (L - (d + 1)) := by
            obtain ⟨m, hm⟩ : ∃ m, L - (d + 1) = m + 1 := ⟨L - (d + 1) - 1, by omega⟩
            rw [hm, show L - d = m + 2 by omega]
            rfl
          have c6 := sf_cn_le (bt B') 6
          have emu3 : sf_mu L (upd (upd lf d B1) (d + 1) B') (d + 1 + 1) = sf_mu L lf d + (1 + sf_cn (bt B1) 6 * sf_Kc (L - d)) + (1 + sf_cn (bt B') 6 * sf_Kc (L - (d + 1))) := by
            show sf_mu L (upd (upd lf d B1) (d + 1) B') (d + 1) + (1 + sf_cn (bt (upd (upd lf d B1) (d + 1) B' (d + 1))) 6 * sf_Kc (L - (d + 1))) = _
            rw [pk_us, ← emu2]
            congr 1
            exact sf_sn_congr (d + 1) (fun e he => by rw [pk_un (by omega)])
          have hless : sf_mu L (upd (upd lf d B1) (d + 1) B') (d + 1 + 1) + 1 ≤ sf_mu L lf (d + 1) := by
            rw [emu3, emu, hcnt, ek]
            have m6 : sf_cn (bt B') 6 * sf_Kc (L - (d + 1)) ≤ 6 * sf_Kc (L - (d + 1)) := Nat.mul_le_mul_right _ c6
            have ex : (sf_cn (bt B1) 6 + 1) * (2 + 6 * sf_Kc (L - (d + 1))) = sf_cn (bt B1) 6 * (2 + 6 * sf_Kc (L - (d + 1))) + (2 + 6 * sf_Kc (L - (d + 1))) := Nat.succ_mul _ _
            omega
          have k := ih (d + 1 + 1) (r + 1) (sf_un v (q d) x) pl aL' aP' su' va (upd nw (q d) (nI x)) (upd (upd lf d B1) (d + 1) B') (by omega) (by omega) (by omega) hv3 (fun e he => ⟨hvb e (by omega), hn' e (by omega)⟩) (fun a ha => S' a ha) (fun e he y hy hb => ?_) (fun k hk => ?_)
          · rw [nI_pred] at k
            exact k
          · by_cases c : e = d + 1
            · rw [c, pk_us, hB' y hy, Bool.and_eq_true] at hb
              rw [c]
              exact of_decide_eq_true hb.2
            · rw [pk_un c] at hb
              exact h7' e (by omega) y hy hb
          · rw [← tot k hk]
            have p2 : sf_PT (sf_FF kd ar sz yn g li pi P i j k) G q L (upd (upd lf d B1) (d + 1) B') (sf_un v (q d) x) (d + 1 + 1) = sf_PT (sf_FF kd ar sz yn g li pi P i j k) G q L (upd (upd lf d B1) (d + 1) B') (sf_un v (q d) x) (d + 1) + sf_TE (sf_FF kd ar sz yn g li pi P i j k) G q L (upd (upd lf d B1) (d + 1) B' (d + 1)) (sf_un v (q d) x) (d + 1) := rfl
            have p3 : sf_PT (sf_FF kd ar sz yn g li pi P i j k) G q L (upd (upd lf d B1) (d + 1) B') (sf_un v (q d) x) (d + 1) = sf_PT (sf_FF kd ar sz yn g li pi P i j k) G q L (upd lf d B1) (sf_un v (q d) x) (d + 1) := sf_PT_c (hFF k) rfl (fun e he => rfl) (fun e he => pk_un (by omega))
            have p4 : sf_TE (sf_FF kd ar sz yn g li pi P i j k) G q L B' (sf_un v (q d) x) (d + 1) = sf_SS (sf_FF kd ar sz yn g li pi P i j k) G (sf_ls q (d + 1) (L - (d + 1))) (sf_un v (q d) x) := by
              refine sf_TE_full (B := B) (by omega) qD.2.2.2.1 (fun y hy => hB' y (by omega)) (fun y hy hb => sf_SS_zero _ _ (fun w w1 w2 => ?_))
              have nl : ∀ p, (∀ e, d + 1 + 1 ≤ e → e < L → q e ≠ p) → p ∉ sf_ls q (d + 1 + 1) (L - (d + 1 + 1)) := by
                intro p hp hm
                obtain ⟨e, e1, e2, e3⟩ := sf_ls_ex q _ _ p hm
                exact hp e e1 (by omega) e3
              have w3 : w 3 = 0 := by
                rw [w1 3 (nl 3 (fun e _ e2 => by have := (QC.2.1 e e2).1; omega)), sf_ue (by omega)]
                exact hv3
              have wq : w (q (d + 1)) = y := by
                rw [w1 _ (nl _ (fun e e1 e2 e3 => by have := QC.2.2 e (d + 1) e2 (by omega) e3; omega)), sf_us]
              have we : ∀ e, e < d + 1 → w (q e) = sf_un v (q d) x (q e) := by
                intro e he
                rw [w1 _ (nl _ (fun e' e1 e2 e3 => by have := QC.2.2 e' e e2 (by omega) e3; omega)), sf_ue (fun e3 => by have := QC.2.2 e (d + 1) (by omega) (by omega) e3; omega)]
              have AG : sf_AG L q G (d + 1) (sf_un v (q d) x) w := by
                refine ⟨w3, we, fun e he => ?_⟩
                by_cases c1 : e < d + 1
                · rw [we e c1]
                  exact hvb e c1
                · by_cases c2 : e = d + 1
                  · rw [c2, wq]
                    exact hy
                  · exact w2 _ (sf_ls_mem q _ _ e (by omega) (by omega))
              have z0 := hS w AG (by rw [wq]; exact hb)
              dsimp only at z0
              unfold sf_FF
              rw [z0]
              split <;> rfl
            rw [p2, p3, pk_us, p4]
            generalize sf_PT (sf_FF kd ar sz yn g li pi P i j k) G q L (upd lf d B1) (sf_un v (q d) x) (d + 1) = X1
            generalize sf_SS (sf_FF kd ar sz yn g li pi P i j k) G (sf_ls q (d + 1) (L - (d + 1))) (sf_un v (q d) x) = X3
            rw [Int32.add_assoc, Int32.add_comm X3]
end
end
section
section
variable {f_parts f_arrays f_height f_loops : Int32} {a_rankOf a_rows a_columns a_formatOf a_lines a_lineAt a_lineBegin a_placeAt a_numberAt a_kind a_number a_partA a_partB a_indexA a_indexB a_stack a_inside a_plain a_loopIndex a_spanOf a_lineIndex a_placeIndex a_atLine a_atPlace a_support a_value a_now a_left : Nat → Int32} {A L P : Nat} {q G li pi C W kd ar sz : Nat → Nat} {kl : Nat → Nat → Bool} {kp : Nat → Nat → Nat → Bool} {g : Nat → Nat → Nat → Int32} {yk yn ys : Nat → Int32}
theorem sf_work {post : SX → Prop} (T : sf_TR P kd sz) (DD : sf_PD P A kd ar sz a_kind a_number a_partA a_partB yk yn ys) (hP : P ≤ 20) (h0 : 0 < P) (hin : ∀ p, p < P → ¬ a_inside p = 0)
    (QC : sf_QC L q G a_loopIndex a_spanOf) (hA : A ≤ 6) (HA : sf_HA A L q G li pi C W kl kp g a_lineIndex a_placeIndex a_lines a_lineAt a_lineBegin a_placeAt a_numberAt) {i j : Nat} (hi : sf_KK q L i) (hj : sf_KK q L j)
    (h : ∀ (pl aL aP su va nw lf : Nat → Int32), (∀ k, k < 36 → pl k = sf_SS (sf_FF kd ar sz yn g li pi P i j k) G (sf_ls q 0 L) (fun _ => 0)) → post (f_parts, (nI A), f_height, (nI L), a_rankOf, a_rows, a_columns, a_formatOf, a_lines, a_lineAt, a_lineBegin, a_placeAt, a_numberAt, a_kind, a_number, a_partA, a_partB, a_indexA, a_indexB, a_stack, a_inside, pl, a_loopIndex, a_spanOf, a_lineIndex, a_placeIndex, aL, aP, su, va, nw, lf)) :
    wpX_workOut post (f_parts, (nI A), f_height, (nI L), a_rankOf, a_rows, a_columns, a_formatOf, a_lines, a_lineAt, a_lineBegin, a_placeAt, a_numberAt, a_kind, a_number, a_partA, a_partB, a_indexA, a_indexB, a_stack, a_inside, a_plain, a_loopIndex, a_spanOf, a_lineIndex, a_placeIndex, a_atLine, a_atPlace, a_support, a_value, a_now, a_left) (nI (P - 1)) (sf_eI i) (sf_eI j) := by
  have hL := QC.1
  unfold wpX_workOut
  refine sf_clear (fun pl hpl => ?_)
  dsimp only
  refine sf_start (v := fun _ => 0) QC hA HA rfl (fun aL aP S => ?_)
  dsimp only
  refine pk_eq L 0 (fun e => ?_) (fun e => ?_)
  · subst e
    refine sf_addVal (v := fun _ => 0) T DD hP h0 hin QC hA HA rfl (fun e he => absurd he (Nat.not_lt_zero e)) S (fun e he => absurd he (Nat.not_lt_zero e)) hi hj (fun va => h _ _ _ _ _ _ _ (fun k hk => ?_))
    show _ = sf_FF kd ar sz yn g li pi P i j k (fun _ => 0)
    unfold sf_FF
    dsimp only
    by_cases c : k = 6 * 0 + 0
    · rw [if_pos c.symm, c, pk_us, hpl _ (by omega), Int32.zero_add]
    · rw [pk_un c, if_neg (fun w => c w.symm), hpl k hk]
  · refine sf_enter (d := 0) (v := fun _ => 0) T DD hP h0 hin QC hA HA (by omega) rfl (fun e he => absurd he (Nat.not_lt_zero e)) S (fun su B B' hS hB' => ⟨302, ?_⟩)
    have q0 := QC.2.1 0 (by omega)
    have emu : sf_mu L (upd a_left 0 B') 1 = 0 + (1 + sf_cn (bt (upd a_left 0 B' 0)) 6 * sf_Kc (L - 0)) := rfl
    rw [pk_us, Nat.sub_zero] at emu
    have c6 := sf_cn_le (bt B') 6
    have k50 : sf_Kc L ≤ 50 := by
      rcases (by omega : L = 1 ∨ L = 2 ∨ L = 3) with z | z | z
      · rw [z]
        decide
      · rw [z]
        decide
      · rw [z]
        decide
    have m6 : sf_cn (bt B') 6 * sf_Kc L ≤ 6 * 50 := Nat.mul_le_mul c6 k50
    have k := sf_wo35 (post := post) (f_parts := f_parts) (f_height := f_height) (a_rankOf := a_rankOf) (a_rows := a_rows) (a_columns := a_columns) (a_formatOf := a_formatOf) (a_indexA := a_indexA) (a_indexB := a_indexB) (a_stack := a_stack) T DD hP h0 hin QC hA HA hi hj (Tot := fun k => sf_SS (sf_FF kd ar sz yn g li pi P i j k) G (sf_ls q 0 L) (fun _ => 0)) h 302 1 0 (fun _ => 0) pl aL aP su a_value a_now (upd a_left 0 B') (by omega) (by omega) (by omega) rfl (fun e he => by omega) (fun a ha => S a ha) (fun e he y hy hb => ?_) (fun k hk => ?_)
    · rw [show nI 1 - 1 = (0 : Int32) from rfl] at k
      exact k
    · have e0 : e = 0 := by omega
      subst e0
      rw [pk_us, hB' y hy, Bool.and_eq_true] at hb
      exact of_decide_eq_true hb.2
    · show pl k + (0 + sf_TE (sf_FF kd ar sz yn g li pi P i j k) G q L (upd a_left 0 B' 0) (fun _ => 0) 0) = _
      rw [hpl k hk, Int32.zero_add, Int32.zero_add, pk_us]
      refine sf_TE_full (B := B) (by omega) q0.2.2.2.1 (fun y hy => hB' y (by omega)) (fun y hy hb => sf_SS_zero _ _ (fun w w1 w2 => ?_))
      have nl : ∀ p, (∀ e, 0 + 1 ≤ e → e < L → q e ≠ p) → p ∉ sf_ls q (0 + 1) (L - (0 + 1)) := by
        intro p hp hm
        obtain ⟨e, e1, e2, e3⟩ := sf_ls_ex q _ _ p hm
        exact hp e e1 (by omega) e3
      have w3 : w 3 = 0 := by
        rw [w1 3 (nl 3 (fun e _ e2 => by have := (QC.2.1 e e2).1; omega)), sf_ue (by omega)]
      have wq : w (q 0) = y := by
        rw [w1 _ (nl _ (fun e e1 e2 e3 => by have := QC.2.2 e 0 e2 (by omega) e3; omega)), sf_us]
      have AG : sf_AG L q G 0 (fun _ => 0) w := by
        refine ⟨w3, fun e he => absurd he (Nat.not_lt_zero e), fun e he => ?_⟩
        by_cases c2 : e = 0
        · rw [c2, wq]
          exact hy
        · exact w2 _ (sf_ls_mem q _ _ e (by omega) (by omega))
      have z0 := hS w AG (by rw [wq]; exact hb)
      dsimp only at z0
      unfold sf_FF
      rw [z0]
      split <;> rfl
end
/-! Y's sums -/
theorem sf_sm_split (f : Nat → Int32) (a : Nat) : ∀ b, sf_sm f (a + b) = sf_sm f a + sf_sm (fun j => f (a + j)) b
  | 0 => (Int32.add_zero _).symm
  | b + 1 => by
    show sf_sm f (a + b) + f (a + b) = sf_sm f a + (sf_sm (fun j => f (a + j)) b + f (a + b))
    rw [sf_sm_split f a b, Int32.add_assoc]
theorem sf_sm_mul (f : Nat → Int32) (b : Nat) : ∀ a, sf_sm f (a * b) = sf_sm (fun i => sf_sm (fun j => f (i * b + j)) b) a
  | 0 => by rw [Nat.zero_mul]; rfl
  | a + 1 => by
    rw [Nat.succ_mul, sf_sm_split, sf_sm_mul f b a]
    rfl
def sf_vn (T1 T2 n : Nat) : Nat → Nat := fun p => if p = 0 then n / (T1 * T2) else if p = 1 then n / T2 % T1 else if p = 2 then n % T2 else 0
theorem sf_vn_e {T1 T2 x0 x1 x2 : Nat} (h1 : x1 < T1) (h2 : x2 < T2) : sf_vn T1 T2 ((x0 * T1 + x1) * T2 + x2) = sf_un (sf_un (sf_un (fun _ => 0) 0 x0) 1 x1) 2 x2 := by
  have d2 : ((x0 * T1 + x1) * T2 + x2) / T2 = x0 * T1 + x1 := by
    rw [Nat.mul_comm, Nat.mul_add_div (by omega), Nat.div_eq_of_lt h2, Nat.add_zero]
  have m2 : ((x0 * T1 + x1) * T2 + x2) % T2 = x2 := by
    rw [Nat.mul_comm, Nat.mul_add_mod, Nat.mod_eq_of_lt h2]
  have d1 : (x0 * T1 + x1) / T1 = x0 := by
    rw [Nat.mul_comm, Nat.mul_add_div (by omega), Nat.div_eq_of_lt h1, Nat.add_zero]
  have m1 : (x0 * T1 + x1) % T1 = x1 := by
    rw [Nat.mul_comm, Nat.mul_add_mod, Nat.mod_eq_of_lt h1]
  funext p
  unfold sf_vn
  by_cases e0 : p = 0
  · rw [if_pos e0, e0, sf_ue (by omega), sf_ue (by omega), sf_us, Nat.mul_comm T1 T2, ← Nat.div_div_eq_div_mul, d2, d1]
  · rw [if_neg e0]
    by_cases e1 : p = 1
    · rw [if_pos e1, e1, sf_ue (by omega), sf_us, d2, m1]
    · rw [if_neg e1]
      by_cases e2 : p = 2
      · rw [if_pos e2, e2, sf_us, m2]
      · rw [if_neg e2, sf_ue e2, sf_ue e1, sf_ue e0]
theorem sf_flat (F : (Nat → Nat) → Int32) (T : Nat → Nat) : sf_sm (fun n => F (sf_vn (T 1) (T 2) n)) (T 0 * T 1 * T 2) = sf_SS F T [0, 1, 2] (fun _ => 0) := by
  rw [sf_sm_mul, sf_sm_mul]
  refine sf_sm_congr _ (fun x0 h0 => sf_sm_congr _ (fun x1 h1 => sf_sm_congr _ (fun x2 h2 => ?_)))
  rw [sf_vn_e h1 h2]
  rfl
/-- X's order of sums against Y's -/
theorem sf_perm {L : Nat} {q G : Nat → Nat} (hL : L ≤ 3) (hq : ∀ d, d < L → q d < 3) (hne : ∀ d e, d < L → e < L → q d = q e → d = e) (hc : ∀ p, p < 3 → 0 < G p → ∃ d, d < L ∧ q d = p) :
    ∃ m : List Nat, (∀ p, p ∈ m → p < 3 ∧ G p = 0 ∧ ∀ d, d < L → q d ≠ p) ∧ (sf_ls q 0 L ++ m).Perm [0, 1, 2] := by
  have gz : ∀ p, p < 3 → (∀ d, d < L → q d ≠ p) → p < 3 ∧ G p = 0 ∧ ∀ d, d < L → q d ≠ p := by
    intro p hp hn
    refine ⟨hp, ?_, hn⟩
    rcases Nat.eq_zero_or_pos (G p) with z | z
    · exact z
    · obtain ⟨d, d1, d2⟩ := hc p hp z
      exact absurd d2 (hn d d1)
  rcases (by omega : L = 0 ∨ L = 1 ∨ L = 2 ∨ L = 3) with z | z | z | z
  · subst z
    refine ⟨[0, 1, 2], fun p hp => gz p ?_ (fun d hd => absurd hd (Nat.not_lt_zero d)), List.Perm.refl _⟩
    rcases List.mem_cons.mp hp with e | hp
    · omega
    · rcases List.mem_cons.mp hp with e | hp
      · omega
      · rcases List.mem_cons.mp hp with e | hp
        · omega
        · exact absurd hp List.not_mem_nil
  · subst z
    have h0 := hq 0 (by omega)
    have mk : ∀ a b c : Nat, q 0 = a → b < 3 → c < 3 → a ≠ b → a ≠ c → ([a] ++ [b, c]).Perm [0, 1, 2] → ∃ m : List Nat, (∀ p, p ∈ m → p < 3 ∧ G p = 0 ∧ ∀ d, d < 1 → q d ≠ p) ∧ (sf_ls q 0 1 ++ m).Perm [0, 1, 2] := by
      intro a b c ea hb hc2 n1 n2 hp
      refine ⟨[b, c], fun p hm => gz p ?_ (fun d hd w => ?_), ?_⟩
      · rcases List.mem_cons.mp hm with e | hm
        · omega
        · rcases List.mem_cons.mp hm with e | hm
          · omega
          · exact absurd hm List.not_mem_nil
      · rw [show d = 0 by omega, ea] at w
        rcases List.mem_cons.mp hm with e | hm
        · omega
        · rcases List.mem_cons.mp hm with e | hm
          · omega
          · exact absurd hm List.not_mem_nil
      · show ([q 0] ++ [b, c]).Perm [0, 1, 2]
        rw [ea]
        exact hp
    rcases (by omega : q 0 = 0 ∨ q 0 = 1 ∨ q 0 = 2) with e | e | e
    · exact mk 0 1 2 e (by omega) (by omega) (by omega) (by omega) (by decide)
    · exact mk 1 0 2 e (by omega) (by omega) (by omega) (by omega) (by decide)
    · exact mk 2 0 1 e (by omega) (by omega) (by omega) (by omega) (by decide)
  · subst z
    have h0 := hq 0 (by omega)
    have h1 := hq 1 (by omega)
    have h01 : q 0 ≠ q 1 := fun w => by
      have := hne 0 1 (by omega) (by omega) w
      omega
    have mk : ∀ a b c : Nat, q 0 = a → q 1 = b → c < 3 → a ≠ c → b ≠ c → ([a, b] ++ [c]).Perm [0, 1, 2] → ∃ m : List Nat, (∀ p, p ∈ m → p < 3 ∧ G p = 0 ∧ ∀ d, d < 2 → q d ≠ p) ∧ (sf_ls q 0 2 ++ m).Perm [0, 1, 2] := by
      intro a b c ea eb hc2 n1 n2 hp
      refine ⟨[c], fun p hm => gz p ?_ (fun d hd w => ?_), ?_⟩
      · rcases List.mem_cons.mp hm with e | hm
        · omega
        · exact absurd hm List.not_mem_nil
      · rcases List.mem_cons.mp hm with e | hm
        · rcases (by omega : d = 0 ∨ d = 1) with z | z
          · rw [z] at w
            omega
          · rw [z] at w
            omega
        · exact absurd hm List.not_mem_nil
      · show ([q 0, q 1] ++ [c]).Perm [0, 1, 2]
        rw [ea, eb]
        exact hp
    rcases (by omega : (q 0 = 0 ∧ q 1 = 1) ∨ (q 0 = 0 ∧ q 1 = 2) ∨ (q 0 = 1 ∧ q 1 = 0) ∨ (q 0 = 1 ∧ q 1 = 2) ∨ (q 0 = 2 ∧ q 1 = 0) ∨ (q 0 = 2 ∧ q 1 = 1)) with e | e | e | e | e | e
    · exact mk 0 1 2 e.1 e.2 (by omega) (by omega) (by omega) (by decide)
    · exact mk 0 2 1 e.1 e.2 (by omega) (by omega) (by omega) (by decide)
    · exact mk 1 0 2 e.1 e.2 (by omega) (by omega) (by omega) (by decide)
    · exact mk 1 2 0 e.1 e.2 (by omega) (by omega) (by omega) (by decide)
    · exact mk 2 0 1 e.1 e.2 (by omega) (by omega) (by omega) (by decide)
    · exact mk 2 1 0 e.1 e.2 (by omega) (by omega) (by omega) (by decide)
  · subst z
    have h0 := hq 0 (by omega)
    have h1 := hq 1 (by omega)
    have h2 := hq 2 (by omega)
    have h01 : q 0 ≠ q 1 := fun w => by
      have := hne 0 1 (by omega) (by omega) w
      omega
    have h02 : q 0 ≠ q 2 := fun w => by
      have := hne 0 2 (by omega) (by omega) w
      omega
    have h12 : q 1 ≠ q 2 := fun w => by
      have := hne 1 2 (by omega) (by omega) w
      omega
    refine ⟨[], fun p hp => absurd hp List.not_mem_nil, ?_⟩
    have mk : ∀ a b c : Nat, q 0 = a → q 1 = b → q 2 = c → ([a, b, c] ++ []).Perm [0, 1, 2] → (sf_ls q 0 3 ++ []).Perm [0, 1, 2] := by
      intro a b c ea eb ec hp
      show ([q 0, q 1, q 2] ++ []).Perm [0, 1, 2]
      rw [ea, eb, ec]
      exact hp
    rcases (by omega : (q 0 = 0 ∧ q 1 = 1 ∧ q 2 = 2) ∨ (q 0 = 0 ∧ q 1 = 2 ∧ q 2 = 1) ∨ (q 0 = 1 ∧ q 1 = 0 ∧ q 2 = 2) ∨ (q 0 = 1 ∧ q 1 = 2 ∧ q 2 = 0) ∨ (q 0 = 2 ∧ q 1 = 0 ∧ q 2 = 1) ∨ (q 0 = 2 ∧ q 1 = 1 ∧ q 2 = 0)) with e | e | e | e | e | e
    · exact mk 0 1 2 e.1 e.2.1 e.2.2 (by decide)
    · exact mk 0 2 1 e.1 e.2.1 e.2.2 (by decide)
    · exact mk 1 0 2 e.1 e.2.1 e.2.2 (by decide)
    · exact mk 1 2 0 e.1 e.2.1 e.2.2 (by decide)
    · exact mk 2 0 1 e.1 e.2.1 e.2.2 (by decide)
    · exact mk 2 1 0 e.1 e.2.1 e.2.2 (by decide)
theorem sf_SS_eq {F : (Nat → Nat) → Int32} {L : Nat} {q G T : Nat → Nat} (hL : L ≤ 3) (hq : ∀ d, d < L → q d < 3 ∧ 1 ≤ G (q d)) (hne : ∀ d e, d < L → e < L → q d = q e → d = e) (hc : ∀ p, p < 3 → 0 < G p → ∃ d, d < L ∧ q d = p)
    (hT : ∀ p, p < 3 → T p = if G p = 0 then 1 else G p) (hF : ∀ v w : Nat → Nat, (∀ p, sf_KK q L p → v p = w p) → F v = F w) (v : Nat → Nat) : sf_SS F G (sf_ls q 0 L) v = sf_SS F T [0, 1, 2] v := by
  obtain ⟨m, hm, hp⟩ := sf_perm hL (fun d hd => (hq d hd).1) hne hc
  rw [sf_SS_g (T := T) _ _ (fun p hp2 => ?_), ← sf_SS_app (K := sf_KK q L) hF (sf_ls q 0 L) m v (fun p hp2 => ?_)]
  · exact sf_SS_perm hp (hp.nodup_iff.mpr (by decide)) v
  · obtain ⟨h1, h2, h3⟩ := hm p hp2
    refine ⟨fun k => ?_, ?_⟩
    · rcases k with k | ⟨e, he, ee⟩
      · omega
      · exact h3 e he ee
    · rw [hT p h1, if_pos h2]
  · obtain ⟨e, e1, e2, e3⟩ := sf_ls_ex q _ _ p hp2
    have := hq e (by omega)
    rw [e3] at this
    rw [hT p this.1, if_neg (by omega)]
end
section
section
variable {g_parts g_arrays g_depth : Int32} {b_ranks b_rows b_widths b_formats b_cells b_kinds b_numbers b_sizes b_values b_firsts b_seconds b_at b_spans : Nat → Int32} {A P : Nat} {kd ar sz ia ib : Nat → Nat} {xk xn xA xB xA2 xB2 : Nat → Int32}
theorem sf_numIn {post : Int32 → Prop} {a i j : Nat} {v : Nat → Nat} (ha : a < 6) (hi : i ≤ 3) (hj : j ≤ 3) (e1 : b_firsts (6 + a) = sf_eI i) (e2 : b_seconds (6 + a) = sf_eI j) (h3 : v 3 = 0) (hv : ∀ p, p < 3 → v p < 6 ∧ b_at p = nI (v p))
    (h : post (b_cells (36 * (6 + a) + (6 * v i + v j)))) : wpY_numberIn post (g_parts, g_arrays, g_depth, b_ranks, b_rows, b_widths, b_formats, b_cells, b_kinds, b_numbers, b_sizes, b_values, b_firsts, b_seconds, b_at, b_spans) (nI (6 + a)) := by
  have hi13 : vp_in (nI (6 + a)) 13 := vp_in_nI (by omega) (by omega)
  have hc : (nI (6 + a)).toNatClampNeg = 6 + a := nI_clamp (by omega)
  have v6 : ∀ p, p ≤ 3 → v p < 6 := by
    intro p hp
    by_cases z : p = 3
    · rw [z, h3]
      omega
    · exact (hv p (by omega)).1
  have k49 : ∀ x2 z0 : Int32, x2 = nI (v i) → z0 = nI (v j) → wY_numberIn_49 post (nI (6 + a)) x2 z0 g_parts g_arrays g_depth b_ranks b_rows b_widths b_formats b_cells b_kinds b_numbers b_sizes b_values b_firsts b_seconds b_at b_spans := by
    intro x2 z0 f1 f2
    subst f1 f2
    unfold wY_numberIn_49
    have := v6 i hi
    have := v6 j hj
    rw [sf_366, nI_clamp (by omega)]
    exact And.intro (vp_in_nI (by omega) (by omega)) h
  have k24 : ∀ z0 : Int32, z0 = nI (v i) → wY_numberIn_24 post (nI (6 + a)) z0 g_parts g_arrays g_depth b_ranks b_rows b_widths b_formats b_cells b_kinds b_numbers b_sizes b_values b_firsts b_seconds b_at b_spans := by
    intro z0 f
    unfold wY_numberIn_24
    rw [hc, e2]
    refine And.intro hi13 (sf_pz hj (fun w => k49 _ _ f ?_) (fun w => And.intro hi13 ?_))
    · rw [w, h3]
      rfl
    · rw [sf_eI_l w, nI_clamp (by omega)]
      exact And.intro (vp_in_nI w (by omega)) (k49 _ _ f (hv j w).2)
  unfold wpY_numberIn
  dsimp only
  rw [hc, e1]
  refine And.intro hi13 (sf_pz hi (fun w => k24 _ ?_) (fun w => And.intro hi13 ?_))
  · rw [w, h3]
    rfl
  · rw [sf_eI_l w, nI_clamp (by omega)]
    exact And.intro (vp_in_nI w (by omega)) (k24 _ (hv i w).2)
theorem sf_yw_l {post : Int32 → SY → Prop} (T : sf_TR P kd sz) (D : sf_PD P A kd ar sz xk xn xA xB b_kinds b_numbers b_sizes) (hP : P ≤ 20) (h0 : 0 < P) (hA : A ≤ 6) (IX : sf_IX A ia ib xA2 xB2 b_firsts b_seconds) (hib : ∀ a, a < A → ia a ≤ 3 ∧ ib a ≤ 3)
    {v : Nat → Nat} (h3 : v 3 = 0) (hv : ∀ p, p < 3 → v p < 6 ∧ b_at p = nI (v p)) {lf : Nat → Int32} (hl : ∀ a, a < A → b_cells (36 * (6 + a) + (6 * v (ia a) + v (ib a))) = lf a)
    (h : ∀ va : Nat → Int32, post (sf_V kd sz b_numbers (fun p => lf (ar p)) (P - 1)) ((nI P), g_arrays, g_depth, b_ranks, b_rows, b_widths, b_formats, b_cells, b_kinds, b_numbers, b_sizes, va, b_firsts, b_seconds, b_at, b_spans)) :
    ∀ n k va, k + n = P → (∀ i, i < k → va i = sf_V kd sz b_numbers (fun p => lf (ar p)) i) → wY_workOut_2 post (nI P) g_arrays g_depth (n + 1) (nI k) b_ranks b_rows b_widths b_formats b_cells b_kinds b_numbers b_sizes va b_firsts b_seconds b_at b_spans := by
  intro n
  induction n with
  | zero =>
    intro k va hk hs
    have e : k = P := by omega
    subst e
    have e1 : nI k - 1 = nI (k - 1) := by
      rw [show (1 : Int32) = nI 1 from rfl, pk_sub (by omega)]
    refine br_t (nI_le (Nat.le_refl _) (by omega)) ?_
    rw [e1, nI_clamp (by omega), hs _ (by omega)]
    exact And.intro (vp_in_nI (by omega) (by omega)) (h va)
  | succ n ih =>
    intro k va hk hs
    have hi : vp_in (nI k) 20 := vp_in_nI (by omega) (by omega)
    have hc : (nI k).toNatClampNeg = k := nI_clamp (by omega)
    obtain ⟨d1, d2, d3, d4⟩ := D k (by omega)
    have t := (T k (by omega)).2.2
    have next : ∀ B : Int32, B = sf_V kd sz b_numbers (fun p => lf (ar p)) k → wY_workOut_2 post (nI P) g_arrays g_depth (n + 1) (nI (k + 1)) b_ranks b_rows b_widths b_formats b_cells b_kinds b_numbers b_sizes (upd va k B) b_firsts b_seconds b_at b_spans := by
      intro B hB
      refine ih (k + 1) _ (by omega) (fun i hi2 => ?_)
      by_cases e : i = k
      · rw [e, pk_us]
        exact hB
      · rw [pk_un e]
        exact hs i (by omega)
    refine br_f (nI_ge (by omega) (by omega)) (And.intro hi ?_)
    rw [hc, d2]
    refine nm_e (pk_le 2 (kd k) (fun g => ?_) (fun g => ?_) (hb := by omega))
    · have k1 : 1 ≤ k := by omega
      have e1 : nI k - 1 = nI (k - 1) := by
        rw [show (1 : Int32) = nI 1 from rfl, pk_sub (by omega)]
      have hi1 : vp_in (nI (k - 1)) 20 := vp_in_nI (by omega) (by omega)
      have z1 := (D (k - 1) (by omega)).2.2.1
      rw [e1, nI_clamp (n := k - 1) (by omega), z1, hs (k - 1) (by omega)]
      refine pk_eq (kd k) 2 (fun e2 => And.intro hi1 (And.intro hi (nm_e (nm_r (nI_1 k) (next _ ?_))))) (fun e2 => And.intro hi1 ?_)
      · rw [sf_V_eq T (show k < P by omega), sf_op2 e2]
      · rw [pk_sub (by omega), nI_clamp (n := k - 1 - sz (k - 1)) (by omega), hs (k - 1 - sz (k - 1)) (by omega)]
        refine And.intro (vp_in_nI (by omega) (by omega)) (nm_e (And.intro hi1 (nm_e (pk_eq (kd k) 3 (fun e3 => And.intro hi (nm_e (nm_r (nI_1 k) (next _ ?_)))) (fun e3 => pk_eq (kd k) 4 (fun e4 => And.intro hi (nm_e (nm_r (nI_1 k) (next _ ?_)))) (fun e4 => And.intro hi (nm_e (nm_r (nI_1 k) (next _ ?_)))))))))
        · rw [sf_V_eq T (show k < P by omega), sf_op3 e3]
        · rw [sf_V_eq T (show k < P by omega), sf_op4 e4]
        · rw [sf_V_eq T (show k < P by omega), sf_op5 (by omega)]
    · refine pk_eq (kd k) 0 (fun e => And.intro hi (And.intro hi (nm_e (nm_r (nI_1 k) (next _ ?_))))) (fun e => And.intro hi ?_)
      · rw [sf_V_eq T (show k < P by omega), sf_op0 e]
      · rcases d4 with ⟨f0, _⟩ | ⟨f0, f1, f2, f3, _⟩ | ⟨f0, _⟩ | ⟨f0, _⟩
        · omega
        · have x := IX _ f1
          rw [f3]
          refine sf_numIn (by omega) (hib _ f1).1 (hib _ f1).2 x.2.2.1 x.2.2.2 h3 hv (And.intro hi (nm_e (nm_r (nI_1 k) (next _ ?_))))
          rw [sf_V_eq T (show k < P by omega), sf_op1 f0]
          exact hl _ f1
        · omega
        · omega
theorem sf_ywork {post : Int32 → SY → Prop} (T : sf_TR P kd sz) (D : sf_PD P A kd ar sz xk xn xA xB b_kinds b_numbers b_sizes) (hP : P ≤ 20) (h0 : 0 < P) (hA : A ≤ 6) (IX : sf_IX A ia ib xA2 xB2 b_firsts b_seconds) (hib : ∀ a, a < A → ia a ≤ 3 ∧ ib a ≤ 3)
    {v : Nat → Nat} (h3 : v 3 = 0) (hv : ∀ p, p < 3 → v p < 6 ∧ b_at p = nI (v p)) {lf : Nat → Int32} (hl : ∀ a, a < A → b_cells (36 * (6 + a) + (6 * v (ia a) + v (ib a))) = lf a)
    (h : ∀ va : Nat → Int32, post (sf_V kd sz b_numbers (fun p => lf (ar p)) (P - 1)) ((nI P), g_arrays, g_depth, b_ranks, b_rows, b_widths, b_formats, b_cells, b_kinds, b_numbers, b_sizes, va, b_firsts, b_seconds, b_at, b_spans)) : wpY_workOut post ((nI P), g_arrays, g_depth, b_ranks, b_rows, b_widths, b_formats, b_cells, b_kinds, b_numbers, b_sizes, b_values, b_firsts, b_seconds, b_at, b_spans) := by
  unfold wpY_workOut
  exact ⟨P + 1, sf_yw_l T D hP h0 hA IX hib h3 hv hl h P 0 _ (Nat.zero_add _) (fun i hi => absurd hi (Nat.not_lt_zero i))⟩
theorem sf_vnb {T0 T1 T2 n : Nat} (h : n < T0 * T1 * T2) (h0 : T0 ≤ 6) (h1 : T1 ≤ 6) (h2 : T2 ≤ 6) (g1 : 1 ≤ T1) (g2 : 1 ≤ T2) : sf_vn T1 T2 n 3 = 0 ∧ sf_vn T1 T2 n 0 < T0 ∧ sf_vn T1 T2 n 1 < T1 ∧ sf_vn T1 T2 n 2 < T2 := by
  refine ⟨rfl, ?_, Nat.mod_lt _ (by omega), Nat.mod_lt _ (by omega)⟩
  show n / (T1 * T2) < T0
  rw [Nat.mul_assoc] at h
  exact (Nat.div_lt_iff_lt_mul (Nat.mul_pos (by omega) (by omega))).mpr h
theorem sf_yloop {post : Int32 → SY → Prop} (T : sf_TR P kd sz) (D : sf_PD P A kd ar sz xk xn xA xB b_kinds b_numbers b_sizes) (hP : P ≤ 20) (h0 : 0 < P) (hA : A ≤ 6) (IX : sf_IX A ia ib xA2 xB2 b_firsts b_seconds) (hib : ∀ a, a < A → ia a ≤ 3 ∧ ib a ≤ 3)
    {to R N M F i j T0 T1 T2 : Nat} (hto : to < 6) (H : sf_HD to b_ranks b_rows b_widths b_formats R N M F) (hi : i ≤ 3) (hj : j ≤ 3) (t0 : 1 ≤ T0 ∧ T0 ≤ 6) (t1 : 1 ≤ T1 ∧ T1 ≤ 6) (t2 : 1 ≤ T2 ∧ T2 ≤ 6) {oc : Nat → Int32} {g : Nat → Nat → Nat → Int32} {li pi : Nat → Nat}
    (hl : ∀ n, n < T0 * T1 * T2 → ∀ a, a < A → oc (36 * (6 + a) + (6 * sf_vn T1 T2 n (ia a) + sf_vn T1 T2 n (ib a))) = g a (sf_vn T1 T2 n (li a)) (sf_vn T1 T2 n (pi a)))
    (h : ∀ ce at' va : Nat → Int32, (∀ k, k < 36 → ce (36 * to + k) = sf_sm (fun n => sf_FF kd ar sz b_numbers g li pi P i j k (sf_vn T1 T2 n)) (T0 * T1 * T2)) → (∀ y, (y < 36 * to ∨ 36 * to + 36 ≤ y) → ce y = oc y) →
      post (nI (sf_bg (sf_kl R N M F (fun k => ce (36 * to + k))) (sf_kp R F (fun k => ce (36 * to + k))) (sf_LL R N M F) (sf_LC R N M F))) (0, 0, 0, b_ranks, b_rows, b_widths, b_formats, ce, b_kinds, b_numbers, b_sizes, va, b_firsts, b_seconds, at', b_spans)) :
    ∀ d n ce at' va, n + d = T0 * T1 * T2 → (∀ k, k < 36 → ce (36 * to + k) = sf_sm (fun n => sf_FF kd ar sz b_numbers g li pi P i j k (sf_vn T1 T2 n)) n) → (∀ y, (y < 36 * to ∨ 36 * to + 36 ≤ y) → ce y = oc y) →
      wY_assign_239 post (nI to) (sf_eI i) (sf_eI j) (nI T0) (nI T1) (nI T2) (d + 1) (nI n) (nI P) g_arrays g_depth b_ranks b_rows b_widths b_formats ce b_kinds b_numbers b_sizes va b_firsts b_seconds at' b_spans := by
  have hm : T0 * T1 * T2 ≤ 216 := Nat.mul_le_mul (Nat.mul_le_mul t0.2 t1.2) t2.2
  have hm2 : T1 * T2 ≤ 36 := Nat.mul_le_mul t1.2 t2.2
  have hm3 : 1 ≤ T1 * T2 := Nat.mul_le_mul t1.1 t2.1
  intro d
  induction d with
  | zero =>
    intro n ce at' va hn h1 h2
    have e : n = T0 * T1 * T2 := by omega
    subst e
    refine br_t ?_ ?_
    · rw [pk_mul, pk_mul]
      exact nI_le (Nat.le_refl _) (by omega)
    · unfold wpY_scrap
      dsimp only
      exact sf_countRoom (by omega) H (h ce at' va h1 h2)
  | succ d ih =>
    intro n ce at' va hn h1 h2
    have hnl : n < T0 * T1 * T2 := by omega
    have vb := sf_vnb hnl t0.2 t1.2 t2.2 t1.1 t2.1
    have a0 : nI n / (nI T1 * nI T2) = nI (sf_vn T1 T2 n 0) := by
      rw [pk_mul, pk_div (by omega) (by omega) (by omega)]
      rfl
    have a1 : nI n / nI T2 - nI n / nI T2 / nI T1 * nI T1 = nI (sf_vn T1 T2 n 1) := by
      have := Nat.div_le_self n T2
      rw [pk_div (by omega) (by omega) (by omega), pk_rem (by omega) (by omega) (by omega)]
      rfl
    have a2 : nI n - nI n / nI T2 * nI T2 = nI (sf_vn T1 T2 n 2) := by
      rw [pk_rem (by omega) (by omega) (by omega)]
      rfl
    generalize hv : sf_vn T1 T2 n = v at vb a0 a1 a2
    have hat : ∀ p, p < 3 → v p < 6 ∧ upd (upd (upd at' 0 (nI (v 0))) 1 (nI (v 1))) 2 (nI (v 2)) p = nI (v p) := by
      intro p hp
      rcases (by omega : p = 0 ∨ p = 1 ∨ p = 2) with z | z | z
      · rw [z]
        exact ⟨by omega, rfl⟩
      · rw [z]
        exact ⟨by omega, rfl⟩
      · rw [z]
        exact ⟨by omega, rfl⟩
    have v6 : ∀ p, p ≤ 3 → v p < 6 := by
      intro p hp
      by_cases z : p = 3
      · rw [z, vb.1]
        omega
      · exact (hat p (by omega)).1
    have vi := v6 i hi
    have vj := v6 j hj
    have n0 : ¬ nI T1 * nI T2 = 0 := by
      rw [pk_mul]
      exact nI_ne0 (by omega) (by omega)
    have n1 : ¬ nI T1 = 0 := nI_ne0 (by omega) (by omega)
    have n2 : ¬ nI T2 = 0 := nI_ne0 (by omega) (by omega)
    generalize hAt : upd (upd (upd at' 0 (nI (v 0))) 1 (nI (v 1))) 2 (nI (v 2)) = At at hat
    have k327 : ∀ z0 z1 : Int32, z0 = nI (v j) → z1 = nI (36 * to + 6 * v i) → wY_assign_327 post (wY_assign_239 post (nI to) (sf_eI i) (sf_eI j) (nI T0) (nI T1) (nI T2) (d + 1)) (nI to) (sf_eI i) (sf_eI j) (nI T0) (nI T1) (nI T2) (nI n) z0 z1 (nI P) g_arrays g_depth b_ranks b_rows b_widths b_formats ce b_kinds b_numbers b_sizes va b_firsts b_seconds At b_spans := by
      intro z0 z1 f0 f1
      subst f0 f1
      unfold wY_assign_327
      have hin : vp_in (nI (36 * to + 6 * v i + v j)) 468 := vp_in_nI (by omega) (by omega)
      refine nm_r (nI_add _ _) (And.intro hin ?_)
      rw [nI_clamp (by omega)]
      refine sf_ywork T D hP h0 hA IX hib vb.1 hat (lf := fun a => g a (v (li a)) (v (pi a))) (fun a ha => ?_) (fun va' => ?_)
      · have b1 := v6 _ (hib a ha).1
        have b2 := v6 _ (hib a ha).2
        rw [h2 _ (by omega), ← hv]
        exact hl n hnl a ha
      · dsimp only
        refine And.intro hin (nm_e (nm_r (nI_1 n) (ih (n + 1) _ _ _ (by omega) (fun k hk => ?_) (fun y hy => ?_))))
        · show _ = sf_sm (fun n => sf_FF kd ar sz b_numbers g li pi P i j k (sf_vn T1 T2 n)) n + sf_FF kd ar sz b_numbers g li pi P i j k (sf_vn T1 T2 n)
          rw [← h1 k hk, hv]
          unfold sf_FF
          by_cases c : k = 6 * v i + v j
          · rw [if_pos c.symm, c, show 36 * to + (6 * v i + v j) = 36 * to + 6 * v i + v j by omega, pk_us]
            rfl
          · rw [if_neg (fun w => c w.symm), pk_un (by omega), Int32.add_zero]
        · rw [pk_un (by omega)]
          exact h2 y hy
    have k312 : ∀ z0 : Int32, z0 = nI (6 * v i) → wY_assign_312 post (wY_assign_239 post (nI to) (sf_eI i) (sf_eI j) (nI T0) (nI T1) (nI T2) (d + 1)) (nI to) (sf_eI i) (sf_eI j) (nI T0) (nI T1) (nI T2) (nI n) z0 (36 * nI to) (nI P) g_arrays g_depth b_ranks b_rows b_widths b_formats ce b_kinds b_numbers b_sizes va b_firsts b_seconds At b_spans := by
      intro z0 f0
      subst f0
      unfold wY_assign_312
      refine sf_pz hj (fun w => k327 _ _ ?_ (sf_36 _ _)) (fun w => ?_)
      · rw [w, vb.1]
        rfl
      · rw [sf_eI_l w, nI_clamp (by omega)]
        refine And.intro (vp_in_nI w (by omega)) ?_
        rw [← sf_eI_l w]
        exact k327 _ _ (hat j w).2 (sf_36 _ _)
    refine br_f ?_ (And.intro n0 (nm_r (e' := upd at' 0 (nI (v 0))) (by rw [a0]) (And.intro n2 (And.intro n1 (nm_r (e' := upd (upd at' 0 (nI (v 0))) 1 (nI (v 1))) (by rw [a1]) (And.intro n2 (nm_r (e' := At) (by rw [a2, hAt]) ?_)))))))
    · rw [pk_mul, pk_mul]
      exact nI_ge (by omega) (by omega)
    · refine sf_pz hi (fun w => k312 _ ?_) (fun w => ?_)
      · rw [w, vb.1]
        rfl
      · rw [sf_eI_l w, nI_clamp (by omega)]
        refine And.intro (vp_in_nI w (by omega)) ?_
        rw [← sf_eI_l w]
        refine k312 _ ?_
        rw [(hat i w).2, sf_6m]
end
end
section
/-- chooseOrder's outcome as the machine wants it -/
theorem sf_od_o {o : Nat → Nat} (h : o 0 ≠ o 1 ∧ o 0 ≠ o 2 ∧ o 1 ≠ o 2) {k : Nat} (hk : k < 3) : sf_od o (o k) = k := by
  unfold sf_od
  rcases (by omega : k = 0 ∨ k = 1 ∨ k = 2) with z | z | z
  · rw [z, if_pos rfl]
  · rw [z, if_neg h.1, if_pos rfl]
  · rw [z, if_neg h.2.1, if_neg h.2.2]
theorem sf_o_inj {o : Nat → Nat} (h : o 0 ≠ o 1 ∧ o 0 ≠ o 2 ∧ o 1 ≠ o 2) {k l : Nat} (hk : k < 3) (hl : l < 3) (e : o k = o l) : k = l := by
  have a := sf_od_o h hk
  have b := sf_od_o h hl
  rw [e, b] at a
  exact a.symm
theorem sf_o_sur {o : Nat → Nat} (h : o 0 ≠ o 1 ∧ o 0 ≠ o 2 ∧ o 1 ≠ o 2) (b0 : o 0 < 3) (b1 : o 1 < 3) (b2 : o 2 < 3) {p : Nat} (hp : p < 3) : ∃ k, k < 3 ∧ o k = p := by
  rcases (by omega : o 0 = p ∨ o 1 = p ∨ o 2 = p) with z | z | z
  · exact ⟨0, by omega, z⟩
  · exact ⟨1, by omega, z⟩
  · exact ⟨2, by omega, z⟩
theorem sf_mkHA {A m : Nat} {o G w ia ib NN MM : Nat → Nat} {qk qr qc qf ql qa qb qp qn xl xp lx sp : Nat → Int32} {c : Nat → Nat → Int32} (ho : o 0 < 3 ∧ o 1 < 3 ∧ o 2 < 3 ∧ o 0 ≠ o 1 ∧ o 0 ≠ o 2 ∧ o 1 ≠ o 2) (DO : sf_DO o G 3 m w) (hlx : ∀ d, d < m → lx d = nI (o (w d)))
    (AL : ∀ a, a < A → sf_AL a (ia a) (ib a) (NN a) (MM a) qk qr qc qf ql qa qb qp qn xl xp (c a) (fun li pi => li = 3 ∨ sf_od o li < sf_od o pi)) (hG : ∀ p, p < 3 → G p ≤ 6) (hS : ∀ p, p < 3 → sp p = nI (G p))
    (HG : ∀ a, a < A → (ia a < 3 → G (ia a) = NN a) ∧ (ib a < 3 → G (ib a) = MM a)) :
    ∃ (q li pi C W : Nat → Nat) (kl : Nat → Nat → Bool) (kp : Nat → Nat → Nat → Bool) (g : Nat → Nat → Nat → Int32), sf_QC m q G lx sp ∧ sf_HA A m q G li pi C W kl kp g xl xp ql qa qb qp qn ∧ (∀ p, p < 3 → 0 < G p → ∃ d, d < m ∧ q d = p) ∧
      (∀ v : Nat → Nat, v 3 = 0 → ∀ a, a < A → c a (6 * v (ia a) + v (ib a)) = g a (v (li a)) (v (pi a))) := by
  obtain ⟨b0, b1, b2, n1, n2, n3⟩ := ho
  have hne := And.intro n1 (And.intro n2 n3)
  have ho3 : ∀ k, k < 3 → o k < 3 := by
    intro k hk
    rcases (by omega : k = 0 ∨ k = 1 ∨ k = 2) with z | z | z
    · rw [z]
      exact b0
    · rw [z]
      exact b1
    · rw [z]
      exact b2
  have comp : ∀ p, p < 3 → 0 < G p → ∃ d, d < m ∧ o (w d) = p := by
    intro p hp hg
    obtain ⟨k, hk, ek⟩ := sf_o_sur hne b0 b1 b2 hp
    obtain ⟨d, d1, d2⟩ := DO.2.2.2 k hk (by rw [ek]; exact hg)
    exact ⟨d, d1, by rw [d2, ek]⟩
  have wmono : ∀ d e, d < m → e < m → w d < w e → d < e := by
    intro d e hd he hw
    rcases Nat.lt_trichotomy d e with z | z | z
    · exact z
    · rw [z] at hw
      omega
    · have := DO.2.2.1 e d z hd
      omega
  have ch : ∀ a, ∃ y : Nat × Nat × Nat × Nat, a < A → (sf_XS (6 + a) qk qr qc qf ql qa qb qp qn y.1 (NN a) (MM a) y.2.1 (c a) ∧ sf_IR y.1 (ia a) (ib a) ∧ sf_LV y.1 y.2.1 (ia a) (ib a) y.2.2.1 y.2.2.2 ∧ xl a = sf_eI y.2.2.1 ∧ xp a = sf_eI y.2.2.2 ∧ (y.2.2.1 = 3 ∨ sf_od o y.2.2.1 < sf_od o y.2.2.2)) := by
    intro a
    by_cases ha : a < A
    · obtain ⟨R, F, li, pi, r⟩ := AL a ha
      exact ⟨(R, F, li, pi), fun _ => r⟩
    · exact ⟨(0, 0, 0, 0), fun z => absurd z ha⟩
  obtain ⟨Y, hY⟩ := Classical.axiomOfChoice ch
  refine ⟨fun d => o (w d), fun a => (Y a).2.2.1, fun a => (Y a).2.2.2, fun a => sf_LC (Y a).1 (NN a) (MM a) (Y a).2.1, fun a => sf_LL (Y a).1 (NN a) (MM a) (Y a).2.1, fun a => sf_kl (Y a).1 (NN a) (MM a) (Y a).2.1 (c a), fun a => sf_kp (Y a).1 (Y a).2.1 (c a), fun a l p => c a (sf_ix (Y a).1 (Y a).2.1 l p), ⟨DO.1, fun d hd => ?_, fun d e hd he eq => ?_⟩, fun a ha => ?_, comp, fun v h3 a ha => ?_⟩
  · have d1 := DO.2.1 d hd
    have d2 := ho3 _ d1.1
    exact ⟨d2, hlx d hd, d1.2, hG _ d2, hS _ d2⟩
  · have e1 := sf_o_inj hne (DO.2.1 d hd).1 (DO.2.1 e he).1 eq
    rcases Nat.lt_trichotomy d e with z | z | z
    · have := DO.2.2.1 d e z he
      omega
    · exact z
    · have := DO.2.2.1 e d z hd
      omega
  · obtain ⟨X, D, V, e1, e2, O⟩ := hY a ha
    refine ⟨e1, e2, ?_, X.2⟩
    dsimp only
    generalize (Y a).1 = R at X D V O ⊢
    generalize (Y a).2.1 = F at X D V O ⊢
    generalize (Y a).2.2.1 = l at X D V O ⊢
    generalize (Y a).2.2.2 = p at X D V O ⊢
    have hg := HG a ha
    have hS2 := X.1.2.2.2.2
    have hd := sf_dims hS2
    have hdb := sf_dimb hS2
    have hsb := sf_shb hS2
    have lok : l < 3 → sf_LC R (NN a) (MM a) F = G l := by
      intro z
      have := sf_dims hS2
      unfold sf_IR at D
      unfold sf_LV at V
      rcases V with ⟨v1, v2, v3⟩ | ⟨v1, v2, v3, v4⟩ | ⟨v1, v2, v3, v4⟩
      · omega
      · rw [v3, hg.1 (by omega)]
        omega
      · rw [v3, hg.2 (by omega)]
        omega
    have pok : p < 3 → sf_LL R (NN a) (MM a) F = G p := by
      intro z
      unfold sf_IR at D
      unfold sf_LV at V
      rcases V with ⟨v1, v2, v3⟩ | ⟨v1, v2, v3, v4⟩ | ⟨v1, v2, v3, v4⟩
      · rw [v3, hg.1 (by omega)]
        omega
      · rw [v4, hg.2 (by omega)]
        omega
      · rw [v4, hg.1 (by omega)]
        omega
    have l3 : l ≤ 3 := by
      unfold sf_IR at D
      unfold sf_LV at V
      omega
    have p3 : p ≤ 3 := by
      unfold sf_IR at D
      unfold sf_LV at V
      omega
    have kk : ∀ z, z ≤ 3 → (z < 3 → 0 < G z) → sf_KK (fun d => o (w d)) m z := by
      intro z hz hz2
      by_cases e : z = 3
      · exact Or.inl e
      · exact Or.inr (comp z (by omega) (hz2 (by omega)))
    refine ⟨kk l l3 (fun z => by have := lok z; omega), kk p p3 (fun z => by have := pok z; omega), hdb.2.1, hdb.2.2.2, fun z => ⟨hdb.1, ?_⟩, fun z => lok (by omega), fun z => ⟨hdb.2.2.1, ?_⟩, fun z => pok (by omega), fun d hd2 z => ?_, fun l' z p' hp' => sf_kl_f z hp', fun l' p' z => sf_kp_f z⟩
    · have r2 : R ≠ 2 := by
        unfold sf_IR at D
        unfold sf_LV at V
        omega
      unfold sf_kl
      rw [sf_sl_r r2]
      rfl
    · unfold sf_IR at D
      unfold sf_LV at V
      omega
    · rcases O with O | O
      · exact Or.inl O
      · by_cases l4 : l = 3
        · exact Or.inl l4
        · obtain ⟨e, he, ee⟩ := comp l (by omega) (by have := lok (by omega); omega)
          refine Or.inr ⟨e, wmono e d he hd2 ?_, ee⟩
          have z' : p = o (w d) := z
          rw [z', ← ee, sf_od_o hne (DO.2.1 e he).1, sf_od_o hne (DO.2.1 d hd2).1] at O
          exact O
  · obtain ⟨X, D, V, e1, e2, O⟩ := hY a ha
    dsimp only
    generalize (Y a).1 = R at X D V O ⊢
    generalize (Y a).2.1 = F at X D V O ⊢
    generalize (Y a).2.2.1 = l at X D V O ⊢
    generalize (Y a).2.2.2 = p at X D V O ⊢
    congr 1
    unfold sf_IR at D
    unfold sf_LV at V
    have ix := sf_ixs R F (v l) (v p)
    rcases V with ⟨v1, v2, v3⟩ | ⟨v1, v2, v3, v4⟩ | ⟨v1, v2, v3, v4⟩
    · have eb : ib a = 3 := by omega
      rw [eb, h3]
      subst v3
      omega
    · subst v3 v4
      omega
    · subst v3 v4
      omega
/-- room is a matter of the 36 numbers -/
theorem sf_room_c {R N M F : Nat} {c c' : Nat → Int32} (hS : sf_Shp R N M F) (h : ∀ k, k < 36 → c' k = c k) : sf_bg (sf_kl R N M F c') (sf_kp R F c') (sf_LL R N M F) (sf_LC R N M F) = sf_bg (sf_kl R N M F c) (sf_kp R F c) (sf_LL R N M F) (sf_LC R N M F) := by
  have hg : ∀ l p, l < sf_LC R N M F → p < sf_LL R N M F → c' (sf_ix R F l p) = c (sf_ix R F l p) := fun l p hl hp => h _ (sf_ix36 hS hl hp)
  refine sf_bg_congr _ (fun l hl => ?_) (fun l p hl hp => ?_)
  · unfold sf_kl
    rw [sf_any_congr _ (fun p hp => hg l p hl hp)]
  · unfold sf_kp
    rw [hg l p hl hp]
end
section
def sf_Tt (G : Nat → Nat) (p : Nat) : Nat := if G p = 0 then 1 else G p
theorem sf_Tt_0 {G : Nat → Nat} {p : Nat} (h : G p = 0) : sf_Tt G p = 1 := if_pos h
theorem sf_Tt_n {G : Nat → Nat} {p : Nat} (h : G p ≠ 0) : sf_Tt G p = G p := if_neg h
theorem sf_Tt_b {G : Nat → Nat} {p : Nat} (h : G p ≤ 6) : 1 ≤ sf_Tt G p ∧ sf_Tt G p ≤ 6 := by
  by_cases z : G p = 0
  · rw [sf_Tt_0 z]
    omega
  · rw [sf_Tt_n z]
    omega
theorem sf_EQ_tr {t : Nat} {qk qr qc qf ql qa qb qp qn qk' qr' qc' qf' ql' qa' qb' qp' qn' ok or oc of ol oa ob op oq : Nat → Int32} (z1 : sf_EQ t ok or oc of ol oa ob op oq qk qr qc qf ql qa qb qp qn) (z2 : sf_EQ t qk qr qc qf ql qa qb qp qn qk' qr' qc' qf' ql' qa' qb' qp' qn') : sf_EQ t ok or oc of ol oa ob op oq qk' qr' qc' qf' ql' qa' qb' qp' qn' :=
  ⟨z2.1.trans z1.1, z2.2.1.trans z1.2.1, z2.2.2.1.trans z1.2.2.1, z2.2.2.2.1.trans z1.2.2.2.1, z2.2.2.2.2.1.trans z1.2.2.2.2.1, fun y hy => (z2.2.2.2.2.2.1 y hy).trans (z1.2.2.2.2.2.1 y hy), fun y hy => (z2.2.2.2.2.2.2.1 y hy).trans (z1.2.2.2.2.2.2.1 y hy), fun y hy => ⟨(z2.2.2.2.2.2.2.2 y hy).1.trans (z1.2.2.2.2.2.2.2 y hy).1, (z2.2.2.2.2.2.2.2 y hy).2.trans (z1.2.2.2.2.2.2.2 y hy).2⟩⟩
section
variable {f_parts f_arrays f_height f_loops : Int32} {a_rankOf a_rows a_columns a_formatOf a_lines a_lineAt a_lineBegin a_placeAt a_numberAt a_kind a_number a_partA a_partB a_indexA a_indexB a_stack a_inside a_plain a_loopIndex a_spanOf a_lineIndex a_placeIndex a_atLine a_atPlace a_support a_value a_now a_left : Nat → Int32} {A P : Nat} {kd ar sz ia ib NN MM G : Nat → Nat} {yk yn ys yA yB : Nat → Int32} {c : Nat → Nat → Int32}
theorem sf_x147 {post : Int32 → SX → Prop} (T : sf_TR P kd sz) (DD : sf_PD P A kd ar sz a_kind a_number a_partA a_partB yk yn ys) (hP : P ≤ 20) (h0 : 0 < P) (hin : ∀ p, p < P → ¬ a_inside p = 0) (hA : A ≤ 6) (IX : sf_IX A ia ib a_indexA a_indexB yA yB)
    (HX : ∀ a, a < A → ∃ R F, sf_XS (6 + a) a_rankOf a_rows a_columns a_formatOf a_lines a_lineAt a_lineBegin a_placeAt a_numberAt R (NN a) (MM a) F (c a) ∧ sf_IR R (ia a) (ib a)) (HZ : ∀ a, a < A → sf_Z (NN a) (MM a) (c a)) (hG : ∀ p, p < 3 → G p ≤ 6) (hS : ∀ p, p < 3 → a_spanOf p = nI (G p))
    (HG : ∀ a, a < A → (ia a < 3 → G (ia a) = NN a) ∧ (ib a < 3 → G (ib a) = MM a)) {to i j R N M F : Nat} (hto : to < 6) (D : sf_IR R i j) (hiN : (i = 3 ∧ N = 1) ∨ (i < 3 ∧ N = G i ∧ 1 ≤ G i)) (hjM : (j = 3 ∧ M = 1) ∨ (j < 3 ∧ M = G j ∧ 1 ≤ G j)) (hSh : sf_Shp R N M F)
    (h : ∀ qk qr qc qf ql qa qb qp qn pl lx xl xp (lo : Int32) aL aP su va nw lf (cx : Nat → Int32) g li pi, (∀ t, t < 6 → t ≠ to → sf_EQ t a_rankOf a_rows a_columns a_formatOf a_lines a_lineAt a_lineBegin a_placeAt a_numberAt qk qr qc qf ql qa qb qp qn) → sf_XS to qk qr qc qf ql qa qb qp qn R N M F cx → (∀ k, k < 36 → cx k = sf_SS (sf_FF kd ar sz yn g li pi P i j k) (sf_Tt G) [0, 1, 2] (fun _ => 0)) →
      (∀ v : Nat → Nat, v 3 = 0 → ∀ a, a < A → c a (6 * v (ia a) + v (ib a)) = g a (v (li a)) (v (pi a))) →
      post (nI (sf_bg (sf_kl R N M F cx) (sf_kp R F cx) (sf_LL R N M F) (sf_LC R N M F))) (0, 0, 0, lo, qk, qr, qc, qf, ql, qa, qb, qp, qn, a_kind, a_number, a_partA, a_partB, a_indexA, a_indexB, a_stack, a_inside, pl, lx, a_spanOf, xl, xp, aL, aP, su, va, nw, lf)) :
    wX_assign_147 post (nI to) (sf_eI i) (sf_eI j) (nI F) (nI R) (nI (P - 1)) (nI P) (nI A) f_height f_loops a_rankOf a_rows a_columns a_formatOf a_lines a_lineAt a_lineBegin a_placeAt a_numberAt a_kind a_number a_partA a_partB a_indexA a_indexB a_stack a_inside a_plain a_loopIndex a_spanOf a_lineIndex a_placeIndex a_atLine a_atPlace a_support a_value a_now a_left := by
  have hi3 : i ≤ 3 := by omega
  have hj3 : j ≤ 3 := by omega
  have nm : ∀ p, p < 3 → ¬ a_spanOf p = -1000000005 := by
    intro p hp w
    have g6 := hG p hp
    rw [hS p hp, ← sf_ex_l (n := G p) (by omega), (sf_ex_t (G p) (by omega)).2.2.1] at w
    omega
  unfold wX_assign_147
  refine br_f (nm 0 (by omega)) (br_f (nm 1 (by omega)) (br_f (nm 2 (by omega)) ?_))
  refine sf_chooseOrder hA IX HX HZ hG hS (fun qk qr qc qf ql qa qb qp qn pl xl xp m w lx o ho DO hlx AL EQ => ?_)
  dsimp only
  obtain ⟨q, li, pi, C, W, kl, kp, g, QC, HA, comp, hcg⟩ := sf_mkHA ho DO hlx AL hG hS HG
  have ki : sf_KK q m i := by
    rcases hiN with z | ⟨z1, z2, z3⟩
    · exact Or.inl z.1
    · exact Or.inr (comp i z1 z3)
  have kj : sf_KK q m j := by
    rcases hjM with z | ⟨z1, z2, z3⟩
    · exact Or.inl z.1
    · exact Or.inr (comp j z1 z3)
  have hK : ∀ a, a < A → sf_KK q m (li a) ∧ sf_KK q m (pi a) := fun a ha => ⟨(HA a ha).2.2.1.1, (HA a ha).2.2.1.2.1⟩
  refine sf_work T DD hP h0 hin QC hA HA ki kj (fun pl aL aP su va nw lf hpl => ?_)
  have hcx : ∀ k, k < 36 → pl k = sf_SS (sf_FF kd ar sz yn g li pi P i j k) (sf_Tt G) [0, 1, 2] (fun _ => 0) := by
    intro k hk
    rw [hpl k hk]
    exact sf_SS_eq QC.1 (fun d hd => ⟨(QC.2.1 d hd).1, (QC.2.1 d hd).2.2.1⟩) QC.2.2 comp (fun p hp => rfl) (fun v w hvw => sf_FF_c T DD h0 hK ki kj k v w hvw) _
  have k229 : ∀ z0 z1 : Int32, z0 = nI M → z1 = nI N → wX_assign_229 post (nI to) (nI F) z0 z1 (nI R) (nI to) (nI P) (nI A) f_height (nI m) qk qr qc qf ql qa qb qp qn a_kind a_number a_partA a_partB a_indexA a_indexB a_stack a_inside pl lx a_spanOf xl xp aL aP su va nw lf := by
    intro z0 z1 f0 f1
    subst f0 f1
    unfold wX_assign_229
    refine sf_pack (c := pl) (by omega) hSh (fun k hk => rfl) (fun qk' qr' qc' qf' ql' qa' qb' qp' qn' FR X2 => ?_)
    dsimp only
    unfold wpX_scrap
    dsimp only
    exact sf_roomOf (by omega) X2 (h _ _ _ _ _ _ _ _ _ _ _ _ _ _ _ _ _ _ _ _ pl g li pi (fun t ht hne => sf_EQ_tr (EQ t ht) (FR t (by omega) hne)) X2 hcx hcg)
  have k214 : ∀ z0 : Int32, z0 = nI N → wX_assign_214 post (nI to) (sf_eI j) (nI F) z0 (nI R) (nI to) (nI P) (nI A) f_height (nI m) qk qr qc qf ql qa qb qp qn a_kind a_number a_partA a_partB a_indexA a_indexB a_stack a_inside pl lx a_spanOf xl xp aL aP su va nw lf := by
    intro z0 f0
    unfold wX_assign_214
    refine sf_pe hj3 (fun z => k229 _ _ ?_ f0) (fun z => ?_)
    · rw [show M = 1 by omega]
      rfl
    · rw [sf_eI_l z, nI_clamp (by omega)]
      refine And.intro (vp_in_nI z (by omega)) (k229 _ _ ?_ f0)
      rw [hS j z, show M = G j by omega]
  dsimp only
  refine sf_pe hi3 (fun z => k214 _ ?_) (fun z => ?_)
  · rw [show N = 1 by omega]
    rfl
  · rw [sf_eI_l z, nI_clamp (by omega)]
    refine And.intro (vp_in_nI z (by omega)) (k214 _ ?_)
    rw [hS i z, show N = G i by omega]
end
section
variable {g_parts g_arrays g_depth : Int32} {b_ranks b_rows b_widths b_formats b_cells b_kinds b_numbers b_sizes b_values b_firsts b_seconds b_at b_spans : Nat → Int32} {A P : Nat} {kd ar sz ia ib G : Nat → Nat} {xk xn xA xB xA2 xB2 : Nat → Int32}
theorem sf_y154 {post : Int32 → SY → Prop} (T : sf_TR P kd sz) (D : sf_PD P A kd ar sz xk xn xA xB b_kinds b_numbers b_sizes) (hP : P ≤ 20) (h0 : 0 < P) (hA : A ≤ 6) (IX : sf_IX A ia ib xA2 xB2 b_firsts b_seconds) (hib : ∀ a, a < A → ia a ≤ 3 ∧ ib a ≤ 3)
    (hG : ∀ p, p < 3 → G p ≤ 6) (hS : ∀ p, p < 3 → b_spans p = nI (G p)) {to i j R N M F : Nat} (hto : to < 6) (DR : sf_IR R i j) (hiN : (i = 3 ∧ N = 1) ∨ (i < 3 ∧ N = G i ∧ 1 ≤ G i)) (hjM : (j = 3 ∧ M = 1) ∨ (j < 3 ∧ M = G j ∧ 1 ≤ G j)) (hSh : sf_Shp R N M F)
    {g : Nat → Nat → Nat → Int32} {li pi : Nat → Nat} (hcg : ∀ v : Nat → Nat, v 3 = 0 → ∀ a, a < A → b_cells (36 * (6 + a) + (6 * v (ia a) + v (ib a))) = g a (v (li a)) (v (pi a)))
    (h : ∀ ce at' va : Nat → Int32, (∀ k, k < 36 → ce (36 * to + k) = sf_sm (fun n => sf_FF kd ar sz b_numbers g li pi P i j k (sf_vn (sf_Tt G 1) (sf_Tt G 2) n)) (sf_Tt G 0 * sf_Tt G 1 * sf_Tt G 2)) → (∀ y, (y < 36 * to ∨ 36 * to + 36 ≤ y) → ce y = b_cells y) →
      post (nI (sf_bg (sf_kl R N M F (fun k => ce (36 * to + k))) (sf_kp R F (fun k => ce (36 * to + k))) (sf_LL R N M F) (sf_LC R N M F))) (0, 0, 0, (upd b_ranks to (nI R)), (upd b_rows to (nI N)), (upd b_widths to (nI M)), (upd b_formats to (nI F)), ce, b_kinds, b_numbers, b_sizes, va, b_firsts, b_seconds, at', b_spans)) :
    ((0 ≤ sf_eI i → (vp_in (sf_eI i) 3 ∧ (wY_assign_154 post (nI to) (sf_eI i) (sf_eI j) (nI F) (b_spans (sf_eI i).toNatClampNeg) (nI to) (nI P) g_arrays g_depth b_ranks b_rows b_widths b_formats b_cells b_kinds b_numbers b_sizes b_values b_firsts b_seconds b_at b_spans))) ∧ (¬ 0 ≤ sf_eI i → (wY_assign_154 post (nI to) (sf_eI i) (sf_eI j) (nI F) 0 (nI to) (nI P) g_arrays g_depth b_ranks b_rows b_widths b_formats b_cells b_kinds b_numbers b_sizes b_values b_firsts b_seconds b_at b_spans))) := by
  have hi3 : i ≤ 3 := by omega
  have hj3 : j ≤ 3 := by omega
  have t0 := sf_Tt_b (hG 0 (by omega))
  have t1 := sf_Tt_b (hG 1 (by omega))
  have t2 := sf_Tt_b (hG 2 (by omega))
  have k168 : ∀ n m : Nat, ((i = 3 ∧ n = 0) ∨ (i < 3 ∧ n = G i)) → ((j = 3 ∧ m = 0) ∨ (j < 3 ∧ m = G j)) → wY_assign_168 post (nI to) (sf_eI i) (sf_eI j) (nI F) (nI m) (nI n) (nI to) (nI P) g_arrays g_depth b_ranks b_rows b_widths b_formats b_cells b_kinds b_numbers b_sizes b_values b_firsts b_seconds b_at b_spans := by
    intro n m hn hm
    have gi : i < 3 → G i ≤ 6 := hG i
    have gj : j < 3 → G j ≤ 6 := hG j
    unfold wY_assign_168
    unfold sf_IR at DR
    refine sf_shape (s := to) (R := R) (N := N) (M := M) (by omega) (by omega) (by omega) (by omega) (by omega) (fun ce c1 c2 => ?_)
    dsimp only
    have H : sf_HD to (upd b_ranks to (nI R)) (upd b_rows to (nI N)) (upd b_widths to (nI M)) (upd b_formats to (nI F)) R N M F := ⟨pk_us, pk_us, pk_us, pk_us, hSh⟩
    have k239 : ∃ n239 : Nat, wY_assign_239 post (nI to) (sf_eI i) (sf_eI j) (nI (sf_Tt G 0)) (nI (sf_Tt G 1)) (nI (sf_Tt G 2)) n239 (nI 0) (nI P) g_arrays g_depth (upd b_ranks to (nI R)) (upd b_rows to (nI N)) (upd b_widths to (nI M)) (upd b_formats to (nI F)) ce b_kinds b_numbers b_sizes b_values b_firsts b_seconds b_at b_spans :=
      ⟨_, sf_yloop T D hP h0 hA IX hib hto H hi3 hj3 t0 t1 t2 (oc := b_cells) (fun n hn a ha => hcg _ rfl a ha) h (sf_Tt G 0 * sf_Tt G 1 * sf_Tt G 2) 0 ce _ _ (Nat.zero_add _) (fun k hk => c1 k hk) c2⟩
    have k213 : ∀ x6 z0 : Int32, x6 = nI (sf_Tt G 0) → z0 = nI (sf_Tt G 1) → wY_assign_213 post (nI to) (sf_eI i) (sf_eI j) x6 z0 (nI P) g_arrays g_depth (upd b_ranks to (nI R)) (upd b_rows to (nI N)) (upd b_widths to (nI M)) (upd b_formats to (nI F)) ce b_kinds b_numbers b_sizes b_values b_firsts b_seconds b_at b_spans := by
      intro x6 z0 f0 f1
      subst f0 f1
      have g2 := hG 2 (by omega)
      unfold wY_assign_213
      rw [hS 2 (by omega)]
      refine pk_eq (G 2) 0 (fun e => ?_) (fun e => nm_e ?_)
      · rw [sf_Tt_0 (p := 2) e] at k239
        exact k239
      · rw [sf_Tt_n (p := 2) e] at k239
        exact k239
    have k192 : ∀ z0 : Int32, z0 = nI (sf_Tt G 0) → wY_assign_192 post (nI to) (sf_eI i) (sf_eI j) z0 (nI P) g_arrays g_depth (upd b_ranks to (nI R)) (upd b_rows to (nI N)) (upd b_widths to (nI M)) (upd b_formats to (nI F)) ce b_kinds b_numbers b_sizes b_values b_firsts b_seconds b_at b_spans := by
      intro z0 f0
      have g1 := hG 1 (by omega)
      unfold wY_assign_192
      rw [hS 1 (by omega)]
      refine pk_eq (G 1) 0 (fun e => k213 _ _ f0 ?_) (fun e => k213 _ _ f0 ?_)
      · rw [sf_Tt_0 e]
        rfl
      · rw [sf_Tt_n e]
    have g0 := hG 0 (by omega)
    rw [hS 0 (by omega)]
    refine pk_eq (G 0) 0 (fun e => k192 _ ?_) (fun e => k192 _ ?_)
    · rw [sf_Tt_0 e]
      rfl
    · rw [sf_Tt_n e]
  have k154 : ∀ n : Nat, ((i = 3 ∧ n = 0) ∨ (i < 3 ∧ n = G i)) → wY_assign_154 post (nI to) (sf_eI i) (sf_eI j) (nI F) (nI n) (nI to) (nI P) g_arrays g_depth b_ranks b_rows b_widths b_formats b_cells b_kinds b_numbers b_sizes b_values b_firsts b_seconds b_at b_spans := by
    intro n hn
    unfold wY_assign_154
    refine sf_pz hj3 (fun z => k168 n 0 hn (Or.inl ⟨z, rfl⟩)) (fun z => ?_)
    have kk := k168 n (G j) hn (Or.inr ⟨z, rfl⟩)
    rw [sf_eI_l z] at kk ⊢
    rw [nI_clamp (by omega), hS j z]
    exact And.intro (vp_in_nI z (by omega)) kk
  refine sf_pz hi3 (fun z => k154 0 (Or.inl ⟨z, rfl⟩)) (fun z => ?_)
  have kk := k154 (G i) (Or.inr ⟨z, rfl⟩)
  rw [sf_eI_l z] at kk ⊢
  rw [nI_clamp (by omega), hS i z]
  exact And.intro (vp_in_nI z (by omega)) kk
end
end
section
theorem sf_IR_u {R R' i j : Nat} (h : sf_IR R i j) (h' : sf_IR R' i j) : R = R' := by
  unfold sf_IR at h h'
  omega
section
variable {f_parts f_arrays f_height f_loops : Int32} {a_rankOf a_rows a_columns a_formatOf a_lines a_lineAt a_lineBegin a_placeAt a_numberAt a_kind a_number a_partA a_partB a_indexA a_indexB a_stack a_inside a_plain a_loopIndex a_spanOf a_lineIndex a_placeIndex a_atLine a_atPlace a_support a_value a_now a_left : Nat → Int32}
theorem sf_as44 {post : Int32 → SX → Prop} {v1 v2 v3 v4 : Int32} (h : post (-1000000001) (f_parts, f_arrays, f_height, f_loops, a_rankOf, a_rows, a_columns, a_formatOf, a_lines, a_lineAt, a_lineBegin, a_placeAt, a_numberAt, a_kind, a_number, a_partA, a_partB, a_indexA, a_indexB, a_stack, a_inside, a_plain, a_loopIndex, a_spanOf, a_lineIndex, a_placeIndex, a_atLine, a_atPlace, a_support, a_value, a_now, a_left)) : wX_assign_44 post v1 v2 v3 v4 f_parts f_arrays f_height f_loops a_rankOf a_rows a_columns a_formatOf a_lines a_lineAt a_lineBegin a_placeAt a_numberAt a_kind a_number a_partA a_partB a_indexA a_indexB a_stack a_inside a_plain a_loopIndex a_spanOf a_lineIndex a_placeIndex a_atLine a_atPlace a_support a_value a_now a_left := by
  have k : ∀ z, wX_assign_70 post v1 v2 v3 v4 1 z f_parts f_arrays f_height f_loops a_rankOf a_rows a_columns a_formatOf a_lines a_lineAt a_lineBegin a_placeAt a_numberAt a_kind a_number a_partA a_partB a_indexA a_indexB a_stack a_inside a_plain a_loopIndex a_spanOf a_lineIndex a_placeIndex a_atLine a_atPlace a_support a_value a_now a_left := fun z => br_f (by decide) h
  unfold wX_assign_44 wX_assign_49
  exact br_c (fun _ => k 0) (fun _ => br_c (fun _ => k 1) (fun _ => k 2))
theorem sf_xas {post : Int32 → SX → Prop} {to i j : Nat} {v4 : Int32} (hto : to < 6) (hi : i ≤ 3) (hj : j ≤ 3) (hg : ∀ R, sf_IR R i j → wX_assign_70 post (nI to) (sf_eI i) (sf_eI j) v4 0 (nI R) f_parts f_arrays f_height f_loops a_rankOf a_rows a_columns a_formatOf a_lines a_lineAt a_lineBegin a_placeAt a_numberAt a_kind a_number a_partA a_partB a_indexA a_indexB a_stack a_inside a_plain a_loopIndex a_spanOf a_lineIndex a_placeIndex a_atLine a_atPlace a_support a_value a_now a_left) (hb : ¬ (∃ R, sf_IR R i j) → post (-1000000001) (f_parts, f_arrays, f_height, f_loops, a_rankOf, a_rows, a_columns, a_formatOf, a_lines, a_lineAt, a_lineBegin, a_placeAt, a_numberAt, a_kind, a_number, a_partA, a_partB, a_indexA, a_indexB, a_stack, a_inside, a_plain, a_loopIndex, a_spanOf, a_lineIndex, a_placeIndex, a_atLine, a_atPlace, a_support, a_value, a_now, a_left)) :
    wpX_assign post (f_parts, f_arrays, f_height, f_loops, a_rankOf, a_rows, a_columns, a_formatOf, a_lines, a_lineAt, a_lineBegin, a_placeAt, a_numberAt, a_kind, a_number, a_partA, a_partB, a_indexA, a_indexB, a_stack, a_inside, a_plain, a_loopIndex, a_spanOf, a_lineIndex, a_placeIndex, a_atLine, a_atPlace, a_support, a_value, a_now, a_left) (nI to) (sf_eI i) (sf_eI j) v4 := by
  have bad : ¬ (∃ R, sf_IR R i j) → wX_assign_44 post (nI to) (sf_eI i) (sf_eI j) v4 f_parts f_arrays f_height f_loops a_rankOf a_rows a_columns a_formatOf a_lines a_lineAt a_lineBegin a_placeAt a_numberAt a_kind a_number a_partA a_partB a_indexA a_indexB a_stack a_inside a_plain a_loopIndex a_spanOf a_lineIndex a_placeIndex a_atLine a_atPlace a_support a_value a_now a_left := fun w => sf_as44 (hb w)
  have k48 : (∃ R, sf_IR R i j) → wX_assign_48 post (nI to) (sf_eI i) (sf_eI j) v4 f_parts f_arrays f_height f_loops a_rankOf a_rows a_columns a_formatOf a_lines a_lineAt a_lineBegin a_placeAt a_numberAt a_kind a_number a_partA a_partB a_indexA a_indexB a_stack a_inside a_plain a_loopIndex a_spanOf a_lineIndex a_placeIndex a_atLine a_atPlace a_support a_value a_now a_left := by
    intro ⟨R, D⟩
    unfold wX_assign_48 wX_assign_49
    unfold sf_IR at D
    refine sf_pe hi (fun a => ?_) (fun a => sf_pe hj (fun b => ?_) (fun b => ?_))
    · exact hg 0 (Or.inl ⟨rfl, a, by omega⟩)
    · exact hg 1 (Or.inr (Or.inl ⟨rfl, a, b⟩))
    · exact hg 2 (Or.inr (Or.inr ⟨rfl, a, b, by omega⟩))
  have nob : ((i = 3 ∧ j < 3) ∨ (i = j ∧ i < 3)) → ¬ (∃ R, sf_IR R i j) := by
    intro w ⟨R, D⟩
    unfold sf_IR at D
    omega
  have k34 : (i < 3 ∨ j = 3) → wX_assign_34 post (nI to) (sf_eI i) (sf_eI j) v4 f_parts f_arrays f_height f_loops a_rankOf a_rows a_columns a_formatOf a_lines a_lineAt a_lineBegin a_placeAt a_numberAt a_kind a_number a_partA a_partB a_indexA a_indexB a_stack a_inside a_plain a_loopIndex a_spanOf a_lineIndex a_placeIndex a_atLine a_atPlace a_support a_value a_now a_left := by
    intro w
    unfold wX_assign_34
    refine sf_pq hi hj (fun a => sf_pe hi (fun b => k48 ⟨0, Or.inl ⟨rfl, b, by omega⟩⟩) (fun b => bad (nob (Or.inr ⟨a, b⟩)))) (fun a => k48 ?_)
    by_cases z : j = 3
    · exact ⟨1, Or.inr (Or.inl ⟨rfl, by omega, z⟩)⟩
    · exact ⟨2, Or.inr (Or.inr ⟨rfl, by omega, by omega, a⟩)⟩
  unfold wpX_assign
  exact sf_bR0 hto (br_t rfl (sf_bI0 hi (br_t rfl (sf_bI0 hj (br_t rfl (sf_pe hi (fun a => sf_pe hj (fun b => k34 (Or.inr b)) (fun b => bad (nob (Or.inl ⟨a, b⟩)))) (fun a => k34 (Or.inl a))))))))
theorem sf_xassign {post : Int32 → SX → Prop} {P A : Nat} {kd ar sz ia ib NN MM G : Nat → Nat} {yk yn ys yA yB : Nat → Int32} (T : sf_TR P kd sz) (D : sf_PD P A kd ar sz a_kind a_number a_partA a_partB yk yn ys) (hP : P ≤ 20) (h0 : 0 < P) (hA : A ≤ 6)
    (IX : sf_IX A ia ib a_indexA a_indexB yA yB) (DM : sf_DM A NN MM a_rows a_columns) (DB : sf_DB A NN MM ia ib) (hst : a_stack 0 = nI (P - 1)) (hG : G = sf_sf kd ar ia ib NN MM (P - sz (P - 1)) P) (hG7 : ∀ p, G p ≤ 7)
    {to i j R F : Nat} (hto : to < 6) (hi : i ≤ 3) (hj : j ≤ 3) (DR : sf_IR R i j) (hF : F ≤ sf_most R) (hR2 : R ≤ 2)
    (hN : ((i < 3 ∧ G i = 0) ∨ (j < 3 ∧ G j = 0)) → ∀ ins sp : Nat → Int32, post (-1000000004) ((nI P), f_arrays, (nI 1), f_loops, a_rankOf, a_rows, a_columns, a_formatOf, a_lines, a_lineAt, a_lineBegin, a_placeAt, a_numberAt, a_kind, a_number, a_partA, a_partB, a_indexA, a_indexB, a_stack, ins, a_plain, a_loopIndex, sp, a_lineIndex, a_placeIndex, a_atLine, a_atPlace, a_support, a_value, a_now, a_left))
    (hM : ¬ ((i < 3 ∧ G i = 0) ∨ (j < 3 ∧ G j = 0)) → (G 0 = 7 ∨ G 1 = 7 ∨ G 2 = 7) → ∀ ins sp : Nat → Int32, post (-1000000005) ((nI P), f_arrays, (nI 1), f_loops, a_rankOf, a_rows, a_columns, a_formatOf, a_lines, a_lineAt, a_lineBegin, a_placeAt, a_numberAt, a_kind, a_number, a_partA, a_partB, a_indexA, a_indexB, a_stack, ins, a_plain, a_loopIndex, sp, a_lineIndex, a_placeIndex, a_atLine, a_atPlace, a_support, a_value, a_now, a_left))
    (hO : ¬ ((i < 3 ∧ G i = 0) ∨ (j < 3 ∧ G j = 0)) → ¬ (G 0 = 7 ∨ G 1 = 7 ∨ G 2 = 7) → ∀ ins sp : Nat → Int32, (∀ q, q < P → (¬ ins q = 0 ↔ P - sz (P - 1) ≤ q)) → (∀ p, p < 3 → sp p = nI (G p)) → wX_assign_147 post (nI to) (sf_eI i) (sf_eI j) (nI F) (nI R) (nI (P - 1)) (nI P) f_arrays (nI 1) f_loops a_rankOf a_rows a_columns a_formatOf a_lines a_lineAt a_lineBegin a_placeAt a_numberAt a_kind a_number a_partA a_partB a_indexA a_indexB a_stack ins a_plain a_loopIndex sp a_lineIndex a_placeIndex a_atLine a_atPlace a_support a_value a_now a_left) :
    wpX_assign post ((nI P), f_arrays, (nI 1), f_loops, a_rankOf, a_rows, a_columns, a_formatOf, a_lines, a_lineAt, a_lineBegin, a_placeAt, a_numberAt, a_kind, a_number, a_partA, a_partB, a_indexA, a_indexB, a_stack, a_inside, a_plain, a_loopIndex, a_spanOf, a_lineIndex, a_placeIndex, a_atLine, a_atPlace, a_support, a_value, a_now, a_left) (nI to) (sf_eI i) (sf_eI j) (nI F) := by
  refine sf_xas hto hi hj (fun R' D' => ?_) (fun w => absurd ⟨R, DR⟩ w)
  have eR := sf_IR_u D' DR
  subst eR
  unfold wX_assign_70
  refine br_t rfl (sf_bF0 hR2 hF (br_t rfl (br_t rfl (nm_r hst ?_))))
  refine sf_xspans T D hP h0 hA IX DM DB (fun ins sp hins hs => ?_)
  rw [← hG] at hs
  dsimp only
  have t : ∀ p, (sf_ex (G p) = 0 ↔ G p = 0) := fun p => (sf_ex_t (G p) (hG7 p)).1
  have k147 : ¬ ((i < 3 ∧ G i = 0) ∨ (j < 3 ∧ G j = 0)) → wX_assign_147 post (nI to) (sf_eI i) (sf_eI j) (nI F) (nI R') (nI (P - 1)) (nI P) f_arrays (nI 1) f_loops a_rankOf a_rows a_columns a_formatOf a_lines a_lineAt a_lineBegin a_placeAt a_numberAt a_kind a_number a_partA a_partB a_indexA a_indexB a_stack ins a_plain a_loopIndex sp a_lineIndex a_placeIndex a_atLine a_atPlace a_support a_value a_now a_left := by
    intro nm
    by_cases mm : G 0 = 7 ∨ G 1 = 7 ∨ G 2 = 7
    · unfold wX_assign_147
      rw [hs 0 (by omega), hs 1 (by omega), hs 2 (by omega)]
      have u : ∀ p, (sf_ex (G p) = -1000000005 ↔ G p = 7) := fun p => (sf_ex_t (G p) (hG7 p)).2.2.1
      refine br_c (fun _ => hM nm mm ins sp) (fun w0 => br_c (fun _ => hM nm mm ins sp) (fun w1 => br_c (fun _ => hM nm mm ins sp) (fun w2 => ?_)))
      exfalso
      rcases mm with mm | mm | mm
      · exact w0 ((u 0).mpr mm)
      · exact w1 ((u 1).mpr mm)
      · exact w2 ((u 2).mpr mm)
    · refine hO nm mm ins sp hins (fun p hp => ?_)
      rw [hs p hp, sf_ex_l]
      intro w
      rcases (by omega : p = 0 ∨ p = 1 ∨ p = 2) with z | z | z
      · rw [z] at w
        exact mm (Or.inl w)
      · rw [z] at w
        exact mm (Or.inr (Or.inl w))
      · rw [z] at w
        exact mm (Or.inr (Or.inr w))
  have k130 : ¬ (i < 3 ∧ G i = 0) → wX_assign_130 post (nI to) (sf_eI i) (sf_eI j) (nI F) (nI R') (nI (P - 1)) (nI P) f_arrays (nI 1) f_loops a_rankOf a_rows a_columns a_formatOf a_lines a_lineAt a_lineBegin a_placeAt a_numberAt a_kind a_number a_partA a_partB a_indexA a_indexB a_stack ins a_plain a_loopIndex sp a_lineIndex a_placeIndex a_atLine a_atPlace a_support a_value a_now a_left := by
    intro nmi
    unfold wX_assign_130
    refine sf_pe hj (fun z => k147 (fun w => ?_)) (fun z => ?_)
    · omega
    · have e1 : (sf_eI j).toNatClampNeg = j := by
        rw [sf_eI_l z]
        exact nI_clamp (by omega)
      have e2 : vp_in (sf_eI j) 3 := by
        rw [sf_eI_l z]
        exact vp_in_nI z (by omega)
      rw [e1, hs j z]
      exact And.intro e2 (br_c (fun y => hN (Or.inr ⟨z, (t j).mp y⟩) ins sp) (fun y => k147 (fun w => by
        rcases w with w | w
        · exact nmi w
        · exact y ((t j).mpr w.2))))
  refine sf_pe hi (fun z => k130 (by omega)) (fun z => ?_)
  have e1 : (sf_eI i).toNatClampNeg = i := by
    rw [sf_eI_l z]
    exact nI_clamp (by omega)
  have e2 : vp_in (sf_eI i) 3 := by
    rw [sf_eI_l z]
    exact vp_in_nI z (by omega)
  rw [e1, hs i z]
  exact And.intro e2 (br_c (fun y => hN (Or.inl ⟨z, (t i).mp y⟩) ins sp) (fun y => k130 (fun w => y ((t i).mpr w.2))))
end
section
variable {g_parts g_arrays g_depth : Int32} {b_ranks b_rows b_widths b_formats b_cells b_kinds b_numbers b_sizes b_values b_firsts b_seconds b_at b_spans : Nat → Int32}
theorem sf_yas {post : Int32 → SY → Prop} {to i j : Nat} {v4 : Int32} (hto : to < 6) (hi : i ≤ 3) (hj : j ≤ 3) (hg : ∀ R, sf_IR R i j → wY_assign_60 post (nI to) (sf_eI i) (sf_eI j) v4 (nI R) g_parts g_arrays g_depth b_ranks b_rows b_widths b_formats b_cells b_kinds b_numbers b_sizes b_values b_firsts b_seconds b_at b_spans) (hb : ¬ (∃ R, sf_IR R i j) → post (-1000000001) (g_parts, g_arrays, g_depth, b_ranks, b_rows, b_widths, b_formats, b_cells, b_kinds, b_numbers, b_sizes, b_values, b_firsts, b_seconds, b_at, b_spans)) :
    wpY_assign post (g_parts, g_arrays, g_depth, b_ranks, b_rows, b_widths, b_formats, b_cells, b_kinds, b_numbers, b_sizes, b_values, b_firsts, b_seconds, b_at, b_spans) (nI to) (sf_eI i) (sf_eI j) v4 := by
  have nob : ((i = 3 ∧ j < 3) ∨ (i = j ∧ i < 3)) → ¬ (∃ R, sf_IR R i j) := by
    intro w ⟨R, D⟩
    unfold sf_IR at D
    omega
  have k51 : ∀ z : Int32, (i < 3 ∨ j = 3) → (∀ R, sf_IR R i j → z = nI R) → wY_assign_51 post (nI to) (sf_eI i) (sf_eI j) v4 z g_parts g_arrays g_depth b_ranks b_rows b_widths b_formats b_cells b_kinds b_numbers b_sizes b_values b_firsts b_seconds b_at b_spans := by
    intro z w hz
    have k60 : (∃ R, sf_IR R i j) → wY_assign_60 post (nI to) (sf_eI i) (sf_eI j) v4 z g_parts g_arrays g_depth b_ranks b_rows b_widths b_formats b_cells b_kinds b_numbers b_sizes b_values b_firsts b_seconds b_at b_spans := by
      intro ⟨R, D⟩
      rw [hz R D]
      exact hg R D
    unfold wY_assign_51
    refine sf_pq hi hj (fun a => sf_pz hi (fun b => k60 ⟨0, Or.inl ⟨rfl, b, by omega⟩⟩) (fun b => hb (nob (Or.inr ⟨a, b⟩)))) (fun a => k60 ?_)
    by_cases y : j = 3
    · exact ⟨1, Or.inr (Or.inl ⟨rfl, by omega, y⟩)⟩
    · exact ⟨2, Or.inr (Or.inr ⟨rfl, by omega, by omega, a⟩)⟩
  have k17 : ∀ z : Int32, (∀ R, sf_IR R i j → z = nI R) → wY_assign_17 post (nI to) (sf_eI i) (sf_eI j) v4 z g_parts g_arrays g_depth b_ranks b_rows b_widths b_formats b_cells b_kinds b_numbers b_sizes b_values b_firsts b_seconds b_at b_spans := by
    intro z hz
    unfold wY_assign_17
    exact sf_yR0 hto (br_f (by decide) (sf_yI0 hi (br_f (by decide) (sf_yI0 hj (br_f (by decide) (sf_pn hj (fun a => k51 z (Or.inr a) hz) (fun a => sf_pn hi (fun b => hb (nob (Or.inl ⟨b, a⟩))) (fun b => k51 z (Or.inl b) hz))))))))
  unfold wpY_assign
  refine sf_pz hi (fun a => k17 0 (fun R D => ?_)) (fun a => sf_pz hj (fun b => k17 1 (fun R D => ?_)) (fun b => k17 2 (fun R D => ?_)))
  · unfold sf_IR at D
    rw [show R = 0 by omega]
    rfl
  · unfold sf_IR at D
    rw [show R = 1 by omega]
    rfl
  · unfold sf_IR at D
    rw [show R = 2 by omega]
    rfl
theorem sf_miss {post : Int32 → Prop} {G : Nat → Nat} {i : Nat} (hi : i ≤ 3) (hG7 : ∀ p, G p ≤ 7) (hs : ∀ p, p < 3 → b_spans p = sf_ey (G p)) (h1 : i < 3 → G i = 0 → post 1) (h0 : ¬ (i < 3 ∧ G i = 0) → post 0) : wpY_isMissing post (g_parts, g_arrays, g_depth, b_ranks, b_rows, b_widths, b_formats, b_cells, b_kinds, b_numbers, b_sizes, b_values, b_firsts, b_seconds, b_at, b_spans) (sf_eI i) := by
  unfold wpY_isMissing
  dsimp only
  refine sf_pn hi (fun z => h0 (by omega)) (fun z => ?_)
  have t := (sf_ex_t (G i) (hG7 i)).2.1
  rw [sf_eI_l z, nI_clamp (by omega), hs i z]
  exact And.intro (vp_in_nI z (by omega)) (br_c (fun w => h1 z (t.mp w)) (fun w => h0 (fun y => w (t.mpr y.2))))
theorem sf_yassign {post : Int32 → SY → Prop} {P A : Nat} {kd ar sz ia ib NN MM G : Nat → Nat} {xk xn xA xB xA2 xB2 : Nat → Int32} (T : sf_TR P kd sz) (D : sf_PD P A kd ar sz xk xn xA xB b_kinds b_numbers b_sizes) (hP : P ≤ 20) (hA : A ≤ 6)
    (IX : sf_IX A ia ib xA2 xB2 b_firsts b_seconds) (DM : sf_DM A NN MM b_rows b_widths) (DB : sf_DB A NN MM ia ib) (hG : G = sf_sf kd ar ia ib NN MM (P - sz (P - 1)) P) (hG7 : ∀ p, G p ≤ 7)
    {to i j R F : Nat} (hto : to < 6) (hi : i ≤ 3) (hj : j ≤ 3) (DR : sf_IR R i j) (hF : F ≤ sf_most R) (hR2 : R ≤ 2)
    (hN : ((i < 3 ∧ G i = 0) ∨ (j < 3 ∧ G j = 0)) → ∀ sp : Nat → Int32, post (-1000000004) ((nI P), g_arrays, (nI 1), b_ranks, b_rows, b_widths, b_formats, b_cells, b_kinds, b_numbers, b_sizes, b_values, b_firsts, b_seconds, b_at, sp))
    (hM : ¬ ((i < 3 ∧ G i = 0) ∨ (j < 3 ∧ G j = 0)) → (G 0 = 7 ∨ G 1 = 7 ∨ G 2 = 7) → ∀ sp : Nat → Int32, post (-1000000005) ((nI P), g_arrays, (nI 1), b_ranks, b_rows, b_widths, b_formats, b_cells, b_kinds, b_numbers, b_sizes, b_values, b_firsts, b_seconds, b_at, sp))
    (hO : ¬ ((i < 3 ∧ G i = 0) ∨ (j < 3 ∧ G j = 0)) → ¬ (G 0 = 7 ∨ G 1 = 7 ∨ G 2 = 7) → ∀ sp : Nat → Int32, (∀ p, p < 3 → sp p = nI (G p)) →
      ((0 ≤ sf_eI i → (vp_in (sf_eI i) 3 ∧ (wY_assign_154 post (nI to) (sf_eI i) (sf_eI j) (nI F) (sp (sf_eI i).toNatClampNeg) (nI to) (nI P) g_arrays (nI 1) b_ranks b_rows b_widths b_formats b_cells b_kinds b_numbers b_sizes b_values b_firsts b_seconds b_at sp))) ∧ (¬ 0 ≤ sf_eI i → (wY_assign_154 post (nI to) (sf_eI i) (sf_eI j) (nI F) 0 (nI to) (nI P) g_arrays (nI 1) b_ranks b_rows b_widths b_formats b_cells b_kinds b_numbers b_sizes b_values b_firsts b_seconds b_at sp)))) :
    wpY_assign post ((nI P), g_arrays, (nI 1), b_ranks, b_rows, b_widths, b_formats, b_cells, b_kinds, b_numbers, b_sizes, b_values, b_firsts, b_seconds, b_at, b_spans) (nI to) (sf_eI i) (sf_eI j) (nI F) := by
  refine sf_yas hto hi hj (fun R' D' => ?_) (fun w => absurd ⟨R, DR⟩ w)
  have eR := sf_IR_u D' DR
  subst eR
  unfold wY_assign_60
  refine sf_yF0 hR2 hF (br_f (by decide) (br_t rfl (sf_yspans T D hP hA IX DM DB (fun sp hs => ?_))))
  rw [← hG] at hs
  dsimp only
  refine sf_miss hi hG7 hs (fun a b => br_f (by decide) (hN (Or.inl ⟨a, b⟩) sp)) (fun nmi => br_t rfl (sf_miss hj hG7 hs (fun a b => br_f (by decide) (hN (Or.inr ⟨a, b⟩) sp)) (fun nmj => br_t rfl ?_)))
  have nm : ¬ ((i < 3 ∧ G i = 0) ∨ (j < 3 ∧ G j = 0)) := fun w => w.elim nmi nmj
  have u : ∀ p, (sf_ey (G p) < 0 ↔ G p = 7) := fun p => (sf_ex_t (G p) (hG7 p)).2.2.2.1
  have u2 : ∀ p, (0 ≤ sf_ey (G p) ↔ G p ≠ 7) := fun p => (sf_ex_t (G p) (hG7 p)).2.2.2.2.1
  by_cases mm : G 0 = 7 ∨ G 1 = 7 ∨ G 2 = 7
  · rw [hs 0 (by omega), hs 1 (by omega), hs 2 (by omega)]
    refine br_c (fun _ => hM nm mm sp) (fun w0 => br_c (fun _ => hM nm mm sp) (fun w1 => br_f (fun w2 => ?_) (hM nm mm sp)))
    rcases mm with mm | mm | mm
    · exact w0 ((u 0).mpr mm)
    · exact w1 ((u 1).mpr mm)
    · exact (u2 2).mp w2 mm
  · have k := hO nm mm sp (fun p hp => by
      rw [hs p hp, sf_ey_l]
      intro w
      rcases (by omega : p = 0 ∨ p = 1 ∨ p = 2) with z | z | z
      · rw [z] at w
        exact mm (Or.inl w)
      · rw [z] at w
        exact mm (Or.inr (Or.inl w))
      · rw [z] at w
        exact mm (Or.inr (Or.inr w)))
    have m0 : ¬ sp 0 < 0 := fun w => mm (Or.inl ((u 0).mp (by rw [← hs 0 (by omega)]; exact w)))
    have m1 : ¬ sp 1 < 0 := fun w => mm (Or.inr (Or.inl ((u 1).mp (by rw [← hs 1 (by omega)]; exact w))))
    have m2 : 0 ≤ sp 2 := by
      rw [hs 2 (by omega)]
      exact (u2 2).mpr (fun w => mm (Or.inr (Or.inr w)))
    exact br_f m0 (br_f m1 (br_t m2 k))
end
end
section
section
variable {g_parts g_arrays g_depth : Int32} {b_ranks b_rows b_widths b_formats b_cells b_kinds b_numbers b_sizes b_values b_firsts b_seconds b_at b_spans : Nat → Int32}
theorem sf_yas1 {post : Int32 → SY → Prop} {v1 v2 v3 v4 : Int32} (h : v1 < 0 ∨ 6 ≤ v1) (hp : post (-1000000001) (g_parts, g_arrays, g_depth, b_ranks, b_rows, b_widths, b_formats, b_cells, b_kinds, b_numbers, b_sizes, b_values, b_firsts, b_seconds, b_at, b_spans)) : wpY_assign post (g_parts, g_arrays, g_depth, b_ranks, b_rows, b_widths, b_formats, b_cells, b_kinds, b_numbers, b_sizes, b_values, b_firsts, b_seconds, b_at, b_spans) v1 v2 v3 v4 := by
  have k : ∀ z, wY_assign_17 post v1 v2 v3 v4 z g_parts g_arrays g_depth b_ranks b_rows b_widths b_formats b_cells b_kinds b_numbers b_sizes b_values b_firsts b_seconds b_at b_spans := by
    intro z
    unfold wY_assign_17
    exact sf_yR1 h (br_t rfl hp)
  unfold wpY_assign
  exact br_c (fun _ => br_c (fun _ => k 2) (fun _ => k 1)) (fun _ => k 0)
theorem sf_yas2 {post : Int32 → SY → Prop} {to : Nat} {v2 v3 v4 : Int32} (hto : to < 6) (h : v2 < -1 ∨ 2 < v2) (hp : post (-1000000001) (g_parts, g_arrays, g_depth, b_ranks, b_rows, b_widths, b_formats, b_cells, b_kinds, b_numbers, b_sizes, b_values, b_firsts, b_seconds, b_at, b_spans)) : wpY_assign post (g_parts, g_arrays, g_depth, b_ranks, b_rows, b_widths, b_formats, b_cells, b_kinds, b_numbers, b_sizes, b_values, b_firsts, b_seconds, b_at, b_spans) (nI to) v2 v3 v4 := by
  have k : ∀ z, wY_assign_17 post (nI to) v2 v3 v4 z g_parts g_arrays g_depth b_ranks b_rows b_widths b_formats b_cells b_kinds b_numbers b_sizes b_values b_firsts b_seconds b_at b_spans := by
    intro z
    unfold wY_assign_17
    exact sf_yR0 hto (br_f (by decide) (sf_yI1 h (br_t rfl hp)))
  unfold wpY_assign
  exact br_c (fun _ => br_c (fun _ => k 2) (fun _ => k 1)) (fun _ => k 0)
theorem sf_yas3 {post : Int32 → SY → Prop} {to i : Nat} {v3 v4 : Int32} (hto : to < 6) (hi : i ≤ 3) (h : v3 < -1 ∨ 2 < v3) (hp : post (-1000000001) (g_parts, g_arrays, g_depth, b_ranks, b_rows, b_widths, b_formats, b_cells, b_kinds, b_numbers, b_sizes, b_values, b_firsts, b_seconds, b_at, b_spans)) : wpY_assign post (g_parts, g_arrays, g_depth, b_ranks, b_rows, b_widths, b_formats, b_cells, b_kinds, b_numbers, b_sizes, b_values, b_firsts, b_seconds, b_at, b_spans) (nI to) (sf_eI i) v3 v4 := by
  have k : ∀ z, wY_assign_17 post (nI to) (sf_eI i) v3 v4 z g_parts g_arrays g_depth b_ranks b_rows b_widths b_formats b_cells b_kinds b_numbers b_sizes b_values b_firsts b_seconds b_at b_spans := by
    intro z
    unfold wY_assign_17
    exact sf_yR0 hto (br_f (by decide) (sf_yI0 hi (br_f (by decide) (sf_yI1 h (br_t rfl hp)))))
  unfold wpY_assign
  exact br_c (fun _ => br_c (fun _ => k 2) (fun _ => k 1)) (fun _ => k 0)
end
theorem sf_Zy {kd ar sz li pi G : Nat → Nat} {yn ce : Nat → Int32} {g : Nat → Nat → Nat → Int32} {P i j to N M : Nat} (hG : ∀ p, p < 3 → G p ≤ 6) (hiN : (i = 3 ∧ N = 1) ∨ (i < 3 ∧ N = G i ∧ 1 ≤ G i)) (hjM : (j = 3 ∧ M = 1) ∨ (j < 3 ∧ M = G j ∧ 1 ≤ G j))
    (h1 : ∀ k, k < 36 → ce (36 * to + k) = sf_sm (fun n => sf_FF kd ar sz yn g li pi P i j k (sf_vn (sf_Tt G 1) (sf_Tt G 2) n)) (sf_Tt G 0 * sf_Tt G 1 * sf_Tt G 2)) : sf_Z N M (fun k => ce (36 * to + k)) := by
  intro x y hx hy hn
  show ce (36 * to + (6 * x + y)) = 0
  rw [h1 _ (by omega)]
  refine sf_sm_0 _ (fun n hnl => ?_)
  have t0 := sf_Tt_b (hG 0 (by omega))
  have t1 := sf_Tt_b (hG 1 (by omega))
  have t2 := sf_Tt_b (hG 2 (by omega))
  have vb := sf_vnb hnl t0.2 t1.2 t2.2 t1.1 t2.1
  generalize sf_vn (sf_Tt G 1) (sf_Tt G 2) n = v at vb
  have vl : ∀ p, p < 3 → v p < sf_Tt G p := by
    intro p hp
    rcases (by omega : p = 0 ∨ p = 1 ∨ p = 2) with z | z | z
    · rw [z]
      exact vb.2.1
    · rw [z]
      exact vb.2.2.1
    · rw [z]
      exact vb.2.2.2
  have bi : v i < N := by
    rcases hiN with ⟨z1, z2⟩ | ⟨z1, z2, z3⟩
    · rw [z1, z2, vb.1]
      omega
    · have := vl i z1
      rw [sf_Tt_n (by omega)] at this
      omega
  have bj : v j < M := by
    rcases hjM with ⟨z1, z2⟩ | ⟨z1, z2, z3⟩
    · rw [z1, z2, vb.1]
      omega
    · have := vl j z1
      rw [sf_Tt_n (by omega)] at this
      omega
  have M6 : M ≤ 6 := by
    rcases hjM with ⟨z1, z2⟩ | ⟨z1, z2, z3⟩
    · omega
    · have := hG j z1
      omega
  unfold sf_FF
  rw [if_neg]
  intro e
  refine hn ?_
  omega
theorem i_vc_assign {k : Nat} {u : SX} {v : SY} (I : i_Rel k u v) (hk : k + 5 ≤ 2560) (v1 : Int32) (v2 : Int32) (v3 : Int32) (v4 : Int32) : wpX_assign (fun r u' => wpY_assign (fun r' v' => r' = r ∧ i_Rel (k + 5) u' v') v v1 v2 v3 v4) u v1 v2 v3 v4 := by
  refine sf_el (Q := fun u v => wpX_assign (fun r u' => wpY_assign (fun r' v' => r' = r ∧ i_Rel (k + 5) u' v') v v1 v2 v3 v4) u v1 v2 v3 v4) ?_ I
  clear I u v
  intro P A H kd ar sz bo ia ib f_loops a_rankOf a_rows a_columns a_formatOf a_lines a_lineAt a_lineBegin a_placeAt a_numberAt a_kind a_number a_partA a_partB a_indexA a_indexB a_stack a_inside a_plain a_loopIndex a_spanOf a_lineIndex a_placeIndex a_atLine a_atPlace a_support a_value a_now a_left b_ranks b_rows b_widths b_formats b_cells b_kinds b_numbers b_sizes b_values b_firsts b_seconds b_at b_spans I
  have hb := I.2.2.2.1
  rcases sf_reg v1 with h | ⟨to, hto, rfl⟩
  · unfold wpX_assign
    exact sf_bR1 h (br_f (by decide) (sf_as44 (sf_yas1 h ⟨rfl, sf_in I⟩)))
  · rcases sf_idx v2 with h | ⟨i, hi, rfl⟩
    · unfold wpX_assign
      exact sf_bR0 hto (br_t rfl (sf_bI1 h (br_f (by decide) (sf_as44 (sf_yas2 hto h ⟨rfl, sf_in I⟩)))))
    · rcases sf_idx v3 with h | ⟨j, hj, rfl⟩
      · unfold wpX_assign
        exact sf_bR0 hto (br_t rfl (sf_bI0 hi (br_t rfl (sf_bI1 h (br_f (by decide) (sf_as44 (sf_yas3 hto hi h ⟨rfl, sf_in I⟩)))))))
      · by_cases hg : ∃ R, sf_IR R i j
        · obtain ⟨R, D⟩ := hg
          have hR2 : R ≤ 2 := by
            unfold sf_IR at D
            omega
          rcases sf_fmt R v4 with h | ⟨F, hF, rfl⟩
          · refine sf_xas hto hi hj (fun R' D' => ?_) (fun w => absurd ⟨R, D⟩ w)
            have eR := sf_IR_u D' D
            subst eR
            unfold wX_assign_70
            refine br_t rfl (sf_bF1 hR2 h (br_f (by decide) (sf_yas hto hi hj (fun R'' D'' => ?_) (fun w => absurd ⟨R', D⟩ w))))
            have eR := sf_IR_u D'' D
            subst eR
            unfold wY_assign_60
            exact sf_yF1 hR2 h (br_t rfl ⟨rfl, sf_in I⟩)
          · by_cases hH : H = 1
            · subst hH
              obtain ⟨I1, I2, I3, I4, I5, I6, I7, I8⟩ := id I
              obtain ⟨NN, MM, DX, DY, DB⟩ := sf_Rl_dm I
              have hST := sf_ST_neg (by omega) I7
              have h0 := hST.1
              have hsz : sz (P - 1) = P := by
                obtain ⟨s1, s2, s3⟩ := I7
                have s4 := (s3 0 (by omega)).2.2.2
                rw [show 0 + 1 = 1 from rfl, s2, s1] at s4
                omega
              have ha1 : ∀ k, k < P → kd k = 1 → ar k < A := by
                intro k hk h1
                obtain ⟨_, _, _, d4⟩ := I6 k hk
                rcases d4 with ⟨e0, _⟩ | ⟨e0, e1, _⟩ | ⟨e0, _⟩ | ⟨e0, _⟩
                · omega
                · exact e1
                · omega
                · omega
              have hG7 : ∀ p, sf_sf kd ar ia ib NN MM (P - sz (P - 1)) P p ≤ 7 := sf_sf_le (A := A) (fun a ha => ⟨(DB a ha).2.1, (DB a ha).2.2.2.1⟩) ha1 P (Nat.le_refl _)
              have hGv := sf_sf_v (kd := kd) (ar := ar) (ia := ia) (ib := ib) (NN := NN) (MM := MM) (fr := P - sz (P - 1)) (A := A) (P := P) (fun a ha => ⟨(DB a ha).1, (DB a ha).2.1, (DB a ha).2.2.1, (DB a ha).2.2.2.1⟩) ha1 P (Nat.le_refl _)
              generalize hGG : sf_sf kd ar ia ib NN MM (P - sz (P - 1)) P = G at hG7 hGv
              refine sf_xassign I5 I6 I4.1 h0 I4.2.1 I3 DX DB hST.2.1 hGG.symm hG7 hto hi hj D hF hR2 (fun w ins sp => ?_) (fun nm mm ins sp => ?_) (fun nm mm ins sp hins hs => ?_)
              · exact sf_yassign I5 I6 I4.1 I4.2.1 I3 DY DB hGG.symm hG7 hto hi hj D hF hR2 (fun _ sp2 => ⟨rfl, sf_in I⟩) (fun nm => absurd w nm) (fun nm => absurd w nm)
              · exact sf_yassign I5 I6 I4.1 I4.2.1 I3 DY DB hGG.symm hG7 hto hi hj D hF hR2 (fun w => absurd w nm) (fun _ _ sp2 => ⟨rfl, sf_in I⟩) (fun _ nmm => absurd mm nmm)
              · have hG6 : ∀ p, p < 3 → G p ≤ 6 := by
                  intro p hp
                  have := hG7 p
                  rcases (by omega : p = 0 ∨ p = 1 ∨ p = 2) with z | z | z
                  · subst z
                    omega
                  · subst z
                    omega
                  · subst z
                    omega
                have HX : ∀ a, a < A → ∃ R F, sf_XS (6 + a) a_rankOf a_rows a_columns a_formatOf a_lines a_lineAt a_lineBegin a_placeAt a_numberAt R (NN a) (MM a) F (fun k => b_cells (36 * (6 + a) + k)) ∧ sf_IR R (ia a) (ib a) := by
                  intro a ha
                  obtain ⟨R', N', M', F', X, HY, Z, D'⟩ := I2 a ha
                  have b1 := sf_shb HY.2.2.2.2
                  have b2 := DB a ha
                  have d1 := (DX a ha).1.symm.trans X.1.2.1
                  have d2 := (DX a ha).2.symm.trans X.1.2.2.1
                  rw [nI_eq (by omega) (by omega)] at d1 d2
                  rw [d1, d2]
                  exact ⟨R', F', X, D'⟩
                have HZ : ∀ a, a < A → sf_Z (NN a) (MM a) (fun k => b_cells (36 * (6 + a) + k)) := by
                  intro a ha
                  obtain ⟨R', N', M', F', X, HY, Z, D'⟩ := I2 a ha
                  have b1 := sf_shb HY.2.2.2.2
                  have b2 := DB a ha
                  have d1 := (DX a ha).1.symm.trans X.1.2.1
                  have d2 := (DX a ha).2.symm.trans X.1.2.2.1
                  rw [nI_eq (by omega) (by omega)] at d1 d2
                  rw [d1, d2]
                  exact Z
                have HG : ∀ a, a < A → (ia a < 3 → G (ia a) = NN a) ∧ (ib a < 3 → G (ib a) = MM a) := by
                  intro a ha
                  obtain ⟨p, hp, p1, p2⟩ := I8 a ha
                  have gv := hGv p hp (by omega) p1
                  rw [p2] at gv
                  refine ⟨fun z => ?_, fun z => ?_⟩
                  · have := hG6 _ z
                    omega
                  · have := hG6 _ z
                    omega
                obtain ⟨N, hiN⟩ : ∃ N, (i = 3 ∧ N = 1) ∨ (i < 3 ∧ N = G i ∧ 1 ≤ G i) := by
                  by_cases z : i = 3
                  · exact ⟨1, Or.inl ⟨z, rfl⟩⟩
                  · exact ⟨G i, Or.inr ⟨by omega, rfl, by omega⟩⟩
                obtain ⟨M, hjM⟩ : ∃ M, (j = 3 ∧ M = 1) ∨ (j < 3 ∧ M = G j ∧ 1 ≤ G j) := by
                  by_cases z : j = 3
                  · exact ⟨1, Or.inl ⟨z, rfl⟩⟩
                  · exact ⟨G j, Or.inr ⟨by omega, rfl, by omega⟩⟩
                have hSh : sf_Shp R N M F := by
                  have g1 : i < 3 → G i ≤ 6 := hG6 i
                  have g2 : j < 3 → G j ≤ 6 := hG6 j
                  unfold sf_most at hF
                  unfold sf_IR at D
                  unfold sf_Shp
                  by_cases z : R = 0
                  · rw [if_pos z] at hF
                    omega
                  · rw [if_neg z] at hF
                    by_cases y : R = 1
                    · rw [if_pos y] at hF
                      omega
                    · rw [if_neg y] at hF
                      omega
                refine sf_x147 I5 I6 I4.1 h0 (fun p hp => (hins p hp).mpr (by omega)) I4.2.1 I3 HX HZ hG6 hs HG hto D hiN hjM hSh (fun qk qr qc qf ql qa qb qp qn pl lx xl xp lo aL aP su va nw lf cx g li pi EQ X2 hcx hcg => ?_)
                refine sf_yassign I5 I6 I4.1 I4.2.1 I3 DY DB hGG.symm hG7 hto hi hj D hF hR2 (fun w => absurd w nm) (fun _ w => absurd w mm) (fun _ _ sp2 hs2 => sf_y154 I5 I6 I4.1 h0 I4.2.1 I3 (fun a ha => ⟨(DB a ha).2.2.2.2.1, (DB a ha).2.2.2.2.2⟩) hG6 hs2 hto D hiN hjM hSh (fun v hv a ha => hcg v hv a ha) (fun ce at' va' h1 h2 => ?_))
                have key : ∀ k, k < 36 → ce (36 * to + k) = cx k := by
                  intro k hk
                  rw [h1 k hk, sf_flat, hcx k hk]
                refine ⟨congrArg nI (sf_room_c (c' := fun k => ce (36 * to + k)) hSh key), ?_⟩
                refine sf_in (P := 0) (A := 0) (H := 0) (kd := kd) (ar := ar) (sz := sz) (bo := fun _ => 0) (ia := ia) (ib := ib) ?_
                refine ⟨fun s hs' => ?_, fun a ha => absurd ha (Nat.not_lt_zero a), fun a ha => absurd ha (Nat.not_lt_zero a), ⟨by omega, by omega, by omega⟩, fun p hp => absurd hp (Nat.not_lt_zero p), fun p hp => absurd hp (Nat.not_lt_zero p), ⟨rfl, rfl, fun h hh => absurd hh (Nat.not_lt_zero h)⟩, fun a ha => absurd ha (Nat.not_lt_zero a)⟩
                by_cases e : s = to
                · subst e
                  exact ⟨R, N, M, F, sf_XS_tr X2 (sf_EQ_rf _ _ _ _ _ _ _ _ _ _) key, ⟨pk_us, pk_us, pk_us, pk_us, hSh⟩, sf_Zy hG6 hiN hjM h1⟩
                · exact sf_SL_tr (I1 s hs') (EQ s hs' e) ⟨pk_un e, pk_un e, pk_un e, pk_un e, fun y hy => h2 _ (by omega)⟩
            · have e1 : ¬ nI H = 1 := sf_ne20 (n := 1) (by omega) (by omega) hH
              refine sf_xas hto hi hj (fun R' D' => ?_) (fun w => absurd ⟨R, D⟩ w)
              have eR := sf_IR_u D' D
              subst eR
              unfold wX_assign_70
              refine br_t rfl (sf_bF0 hR2 hF (br_t rfl (br_f e1 (sf_yas hto hi hj (fun R'' D'' => ?_) (fun w => absurd ⟨R', D⟩ w)))))
              have eR := sf_IR_u D'' D
              subst eR
              unfold wY_assign_60
              exact sf_yF0 hR2 hF (br_f (by decide) (br_f e1 ⟨rfl, sf_in I⟩))
        · exact sf_xas hto hi hj (fun R D => absurd ⟨R, D⟩ hg) (fun _ => sf_yas hto hi hj (fun R D => absurd ⟨R, D⟩ hg) (fun _ => ⟨rfl, sf_in I⟩))
end
