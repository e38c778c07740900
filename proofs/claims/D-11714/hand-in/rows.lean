section
/-! ===== counts: how many places below n a picture has ===== -/
def rc_ct (b : Nat → Bool) : Nat → Nat
  | 0 => 0
  | n + 1 => rc_ct b n + (b n).toNat
theorem rc_ct_s (b : Nat → Bool) (n : Nat) : rc_ct b (n + 1) = rc_ct b n + (b n).toNat := rfl
theorem rc_ct_t {b : Nat → Bool} {n : Nat} (h : b n = true) : rc_ct b (n + 1) = rc_ct b n + 1 := by
  rw [rc_ct_s, h]; rfl
theorem rc_ct_f {b : Nat → Bool} {n : Nat} (h : b n = false) : rc_ct b (n + 1) = rc_ct b n := by
  rw [rc_ct_s, h]; rfl
theorem rc_ct_le (b : Nat → Bool) (n : Nat) : rc_ct b n ≤ n := by
  induction n with
  | zero => exact Nat.le_refl 0
  | succ n ih =>
    have h := Bool.toNat_le (b n)
    rw [rc_ct_s]
    omega
theorem rc_ct_add (b : Nat → Bool) (m n : Nat) : rc_ct b (m + n) = rc_ct b m + rc_ct (fun i => b (m + i)) n := by
  induction n with
  | zero => rfl
  | succ n ih =>
    show rc_ct b (m + n) + (b (m + n)).toNat = rc_ct b m + (rc_ct (fun i => b (m + i)) n + (b (m + n)).toNat)
    omega
theorem rc_ct_mono (b : Nat → Bool) {m n : Nat} (h : m ≤ n) : rc_ct b m ≤ rc_ct b n := by
  obtain ⟨d, rfl⟩ := Nat.exists_eq_add_of_le h
  rw [rc_ct_add]
  exact Nat.le_add_right _ _
theorem rc_ct_congr {b b' : Nat → Bool} {n : Nat} (h : ∀ i, i < n → b i = b' i) : rc_ct b n = rc_ct b' n := by
  induction n with
  | zero => rfl
  | succ n ih => rw [rc_ct_s, rc_ct_s, ih (fun i hi => h i (by omega)), h n (by omega)]
theorem rc_ct_0 {b : Nat → Bool} {n : Nat} (h : ∀ i, i < n → b i = false) : rc_ct b n = 0 := by
  induction n with
  | zero => rfl
  | succ n ih => rw [rc_ct_f (h n (by omega)), ih (fun i hi => h i (by omega))]
theorem rc_ct_1 {b : Nat → Bool} {n : Nat} (h : ∀ i, i < n → b i = true) : rc_ct b n = n := by
  induction n with
  | zero => rfl
  | succ n ih => rw [rc_ct_t (h n (by omega)), ih (fun i hi => h i (by omega))]
theorem rc_flat {b : Nat → Bool} {m n : Nat} (h : m ≤ n) (hb : ∀ i, m ≤ i → i < n → b i = false) : rc_ct b n = rc_ct b m := by
  obtain ⟨d, rfl⟩ := Nat.exists_eq_add_of_le h
  rw [rc_ct_add, rc_ct_0 (fun i hi => hb (m + i) (by omega) (by omega)), Nat.add_zero]
theorem rc_full {b : Nat → Bool} {m n : Nat} (h : m ≤ n) (hb : ∀ i, m ≤ i → i < n → b i = true) : rc_ct b n = rc_ct b m + (n - m) := by
  obtain ⟨d, rfl⟩ := Nat.exists_eq_add_of_le h
  rw [rc_ct_add, rc_ct_1 (fun i hi => hb (m + i) (by omega) (by omega)), Nat.add_sub_cancel_left]
theorem rc_ex {b : Nat → Bool} {n j : Nat} (h : j < rc_ct b n) : ∃ x, x < n ∧ b x = true ∧ rc_ct b x = j := by
  induction n with
  | zero => exact absurd h (Nat.not_lt_zero _)
  | succ n ih =>
    by_cases hj : j < rc_ct b n
    · obtain ⟨x, h1, h2, h3⟩ := ih hj
      exact ⟨x, by omega, h2, h3⟩
    · cases hb : b n with
      | false => rw [rc_ct_f hb] at h; exact absurd h hj
      | true => rw [rc_ct_t hb] at h; exact ⟨n, by omega, hb, by omega⟩
theorem rc_lt {b : Nat → Bool} {x n : Nat} (h : x < n) (hb : b x = true) : rc_ct b x < rc_ct b n := by
  have t := rc_ct_mono b (show x + 1 ≤ n from h)
  rw [rc_ct_t hb] at t
  omega
theorem rc_inj {b : Nat → Bool} {x y : Nat} (hx : b x = true) (hy : b y = true) (h : rc_ct b x = rc_ct b y) : x = y := by
  rcases Nat.lt_trichotomy x y with g | g | g
  · have t := rc_lt g hx
    omega
  · exact g
  · have t := rc_lt g hy
    omega
theorem rc_ct_sum {a b c : Nat → Bool} {n : Nat} (h : ∀ i, i < n → (a i).toNat + (b i).toNat = (c i).toNat) : rc_ct a n + rc_ct b n = rc_ct c n := by
  induction n with
  | zero => rfl
  | succ n ih =>
    have t := ih (fun i hi => h i (by omega))
    have t2 := h n (by omega)
    rw [rc_ct_s, rc_ct_s, rc_ct_s]
    omega
/-- a place where a run begins -/
def rc_st (b : Nat → Bool) (i : Nat) : Bool := b i && !(decide (0 < i) && b (i - 1))
theorem rc_st_0 {b : Nat → Bool} {i : Nat} (h : b i = false) : rc_st b i = false := by
  unfold rc_st; rw [h]; rfl
theorem rc_st_1 {b : Nat → Bool} {i : Nat} (h : b i = true) (h2 : i = 0 ∨ b (i - 1) = false) : rc_st b i = true := by
  unfold rc_st
  rcases h2 with e | e
  · subst e; rw [h]; rfl
  · rw [h, e]; simp
theorem rc_st_2 {b : Nat → Bool} {i : Nat} (h0 : 0 < i) (h2 : b (i - 1) = true) : rc_st b i = false := by
  unfold rc_st
  rw [h2]; simp [h0]
theorem rc_st_shift (b : Nat → Bool) (m i : Nat) (h : 0 < i) : rc_st (fun j => b (m + j)) i = rc_st b (m + i) := by
  unfold rc_st
  have e : m + i - 1 = m + (i - 1) := by omega
  have e2 : 0 < m + i := by omega
  simp [e, h, e2]
theorem rc_st_congr {b b' : Nat → Bool} {n : Nat} (h : ∀ i, i < n → b i = b' i) : ∀ i, i < n → rc_st b i = rc_st b' i := by
  intro i hi
  unfold rc_st
  rw [h i hi, h (i - 1) (by omega)]
end
section
/-! ===== Int32 by its bits (rows of BITS.to-paste, renamed) ===== -/
def rc_bt (x : Int32) (i : Nat) : Bool := x.toBitVec.getLsbD i
theorem rc_ext {x y : Int32} (h : ∀ i, i < 32 → rc_bt x i = rc_bt y i) : x = y := Int32.toBitVec_inj.mp (BitVec.eq_of_getLsbD_eq (fun i hi => h i hi))
theorem rc_bor (x y : Int32) (i : Nat) : rc_bt (x ||| y) i = (rc_bt x i || rc_bt y i) := by unfold rc_bt; rw [Int32.toBitVec_or, BitVec.getLsbD_or]
theorem rc_band (x y : Int32) (i : Nat) : rc_bt (x &&& y) i = (rc_bt x i && rc_bt y i) := by unfold rc_bt; rw [Int32.toBitVec_and, BitVec.getLsbD_and]
theorem rc_bxor (x y : Int32) (i : Nat) : rc_bt (x ^^^ y) i = (rc_bt x i ^^ rc_bt y i) := by unfold rc_bt; rw [Int32.toBitVec_xor, BitVec.getLsbD_xor]
theorem rc_big {x : Int32} {i : Nat} (h : 32 ≤ i) : rc_bt x i = false := BitVec.getLsbD_of_ge _ _ h
theorem rc_bm1 : ∀ i, i < 32 → rc_bt (-1) i = true := by decide +kernel
theorem rc_b0 (i : Nat) : rc_bt 0 i = false := BitVec.getLsbD_zero
theorem rc_b1 : ∀ i, i < 32 → rc_bt 1 i = decide (i = 0) := by decide +kernel
theorem rc_bnot (x : Int32) {i : Nat} (hi : i < 32) : rc_bt (x ^^^ (-1)) i = !rc_bt x i := by rw [rc_bxor, rc_bm1 i hi, Bool.xor_true]
theorem rc_sl : ∀ n, n < 32 → ((nI n &&& 31).toBitVec.smod 32).toNat = n := by decide +kernel
theorem rc_su : ∀ n, n < 32 → (((nI n).toUInt32 &&& Int32.toUInt32 31).toBitVec % 32).toNat = n := by decide +kernel
theorem rc_bshl (n : Nat) (hn : n < 32) (x : Int32) {i : Nat} (hi : i < 32) : rc_bt (x <<< (nI n &&& 31)) i = (decide (n ≤ i) && rc_bt x (i - n)) := by
  unfold rc_bt
  rw [Int32.toBitVec_shiftLeft]
  show (x.toBitVec <<< ((nI n &&& 31).toBitVec.smod 32).toNat).getLsbD i = _
  rw [rc_sl n hn, BitVec.getLsbD_shiftLeft]
  rcases Nat.lt_or_ge i n with h | h
  · simp [h, Nat.not_le.mpr h]
  · simp [hi, h, Nat.not_lt.mpr h]
theorem rc_bushr (n : Nat) (hn : n < 32) (x : Int32) (i : Nat) : rc_bt ((x.toUInt32 >>> ((nI n).toUInt32 &&& Int32.toUInt32 31)).toInt32) i = rc_bt x (n + i) := by
  show (x.toUInt32 >>> ((nI n).toUInt32 &&& Int32.toUInt32 31)).toBitVec.getLsbD i = x.toUInt32.toBitVec.getLsbD (n + i)
  rw [UInt32.toBitVec_shiftRight]
  show (x.toUInt32.toBitVec >>> (((nI n).toUInt32 &&& Int32.toUInt32 31).toBitVec % 32).toNat).getLsbD i = _
  rw [rc_su n hn, BitVec.getLsbD_ushiftRight]
theorem rc_of32 (x : Int32) : ∃ n, n < 2 ^ 32 ∧ x = nI n := ⟨x.toBitVec.toNat, x.toBitVec.isLt, Int32.toBitVec_inj.mp (by show _ = BitVec.ofNat 32 _; simp)⟩
theorem rc_nand (a b : Nat) : nI a &&& nI b = nI (a &&& b) := by
  apply Int32.toBitVec_inj.1
  show BitVec.ofNat 32 a &&& BitVec.ofNat 32 b = BitVec.ofNat 32 (a &&& b)
  apply BitVec.eq_of_getLsbD_eq
  intro i hi
  simp [hi]
theorem rc_nmod (n : Nat) : nI n = nI (n % 2 ^ 32) := by
  apply Int32.toBitVec_inj.1
  show BitVec.ofNat 32 n = BitVec.ofNat 32 (n % 2 ^ 32)
  apply BitVec.eq_of_toNat_eq
  rw [BitVec.toNat_ofNat, BitVec.toNat_ofNat, Nat.mod_mod]
theorem rc_btn {n i : Nat} (hi : i < 32) : rc_bt (nI n) i = n.testBit i := by
  show (BitVec.ofNat 32 n).getLsbD i = _
  rw [BitVec.getLsbD_ofNat]
  simp [hi]
/-- one bit asked: (x >>> (n & 31)) & 1 -/
theorem rc_ask (x : Int32) (n : Nat) (hn : n < 32) : ((x.toUInt32 >>> ((nI n).toUInt32 &&& Int32.toUInt32 31)).toInt32) &&& 1 = nI (rc_bt x n).toNat := by
  apply rc_ext
  intro i hi
  rw [rc_band, rc_b1 i hi, rc_bushr n hn]
  cases hb : rc_bt x n with
  | true =>
    show _ = rc_bt 1 i
    rw [rc_b1 i hi]
    by_cases e : i = 0
    · subst e; simp [hb]
    · simp [e]
  | false =>
    show _ = rc_bt 0 i
    rw [rc_b0]
    by_cases e : i = 0
    · subst e; simp [hb]
    · simp [e]
theorem rc_ask1 (x : Int32) (n : Nat) (hn : n < 32) : (((x.toUInt32 >>> ((nI n).toUInt32 &&& Int32.toUInt32 31)).toInt32) &&& 1 = 1) ↔ rc_bt x n = true := by
  rw [rc_ask x n hn]
  cases rc_bt x n <;> decide
theorem rc_m31 : ∀ n, n < 128 → nI n &&& 31 = nI (n % 32) := by decide +kernel
theorem rc_s5 {n : Nat} (h : n < 2 ^ 31) : nI n >>> ((5 : Int32) &&& 31) = nI (n / 32) := pk_shrN h _ 5 (by decide)
theorem rc_s7 {n : Nat} (h : n < 2 ^ 31) : nI n >>> ((7 : Int32) &&& 31) = nI (n / 128) := pk_shrN h _ 7 (by decide)
theorem rc_one : ∀ n, n < 32 → ∀ i, i < 32 → rc_bt ((1 : Int32) <<< (nI n &&& 31)) i = decide (i = n) := by decide +kernel
theorem rc_onem : ∀ n, n < 32 → ∀ i, i < 32 → rc_bt ((1 : Int32) <<< (nI n &&& 31) - 1) i = decide (i < n) := by decide +kernel
theorem rc_twom : ∀ n, n < 31 → ∀ i, i < 32 → rc_bt ((2 : Int32) <<< (nI n &&& 31) - 1) i = decide (i ≤ n) := by decide +kernel
/-! ===== the count of ones in a word ===== -/
theorem rc_and8 {h l M m : Nat} (hl : l < 256) (hm : m < 256) : (h * 256 + l) &&& (M * 256 + m) = (h &&& M) * 256 + (l &&& m) := by
  have e1 : ((h * 256 + l) &&& (M * 256 + m)) / 2 ^ 8 = h &&& M := by
    rw [Nat.and_div_two_pow, show (h * 256 + l) / 2 ^ 8 = h by omega, show (M * 256 + m) / 2 ^ 8 = M by omega]
  have e2 : ((h * 256 + l) &&& (M * 256 + m)) % 2 ^ 8 = l &&& m := by
    rw [Nat.and_mod_two_pow, show (h * 256 + l) % 2 ^ 8 = l by omega, show (M * 256 + m) % 2 ^ 8 = m by omega]
  omega
def rc_g1 (l : Nat) : Nat := l - (l / 2 &&& 85)
def rc_g2 (l : Nat) : Nat := (rc_g1 l &&& 51) + (rc_g1 l / 4 &&& 51)
def rc_g3 (l : Nat) : Nat := (rc_g2 l + rc_g2 l / 16) &&& 15
theorem rc_t1 : ∀ l, l < 256 → (l / 2 &&& 85) ≤ l ∧ (128 + l / 2) &&& 85 = l / 2 &&& 85 ∧ rc_g1 l < 256 := by decide +kernel
theorem rc_t2 : ∀ l, l < 256 → rc_g2 l ≤ 68 ∧ rc_g2 l % 16 ≤ 4 := by decide +kernel
theorem rc_t2' : ∀ c, c < 4 → ∀ l, l < 256 → (c * 64 + l / 4) &&& 51 = l / 4 &&& 51 := by decide +kernel
theorem rc_t3' : ∀ c, c < 5 → ∀ l, l < 69 → (c * 16 + (l + l / 16)) &&& 15 = (l + l / 16) &&& 15 := by decide +kernel
theorem rc_t3 : ∀ l, l < 256 → rc_g3 l = rc_ct (fun i => l.testBit i) 8 := by decide +kernel
theorem rc_s1 {h l M : Nat} (hl : l < 256) (hh : (h / 2 &&& M) ≤ h) : (h * 256 + l) - ((h * 256 + l) / 2 &&& (M * 256 + 85)) = (h - (h / 2 &&& M)) * 256 + rc_g1 l ∧ ((h * 256 + l) / 2 &&& (M * 256 + 85)) ≤ h * 256 + l := by
  have e : (h * 256 + l) / 2 = (h / 2) * 256 + ((h % 2) * 128 + l / 2) := by omega
  obtain ⟨t1, t2, t3⟩ := rc_t1 l hl
  have t4 : ((h % 2) * 128 + l / 2) &&& 85 = l / 2 &&& 85 := by
    rcases Nat.mod_two_eq_zero_or_one h with z | z
    · rw [z, Nat.zero_mul, Nat.zero_add]
    · rw [z, Nat.one_mul]; exact t2
  rw [e, rc_and8 (by omega) (by omega), t4]
  unfold rc_g1
  generalize h / 2 &&& M = p at hh
  generalize l / 2 &&& 85 = q at t1
  constructor <;> omega
theorem rc_s2 {h l M : Nat} (hl : l < 256) : ((h * 256 + l) &&& (M * 256 + 51)) + ((h * 256 + l) / 4 &&& (M * 256 + 51)) = ((h &&& M) + (h / 4 &&& M)) * 256 + ((l &&& 51) + (l / 4 &&& 51)) := by
  have e : (h * 256 + l) / 4 = (h / 4) * 256 + ((h % 4) * 64 + l / 4) := by omega
  rw [e, rc_and8 hl (by omega), rc_and8 (by omega) (by omega), rc_t2' (h % 4) (by omega) l hl]
  generalize h / 4 &&& M = p
  generalize h &&& M = q
  generalize l / 4 &&& 51 = r
  generalize l &&& 51 = s
  omega
theorem rc_s3 {h l M : Nat} (hl : l ≤ 68) (hh : h % 16 ≤ 4) : ((h * 256 + l) + (h * 256 + l) / 16) &&& (M * 256 + 15) = ((h + h / 16) &&& M) * 256 + ((l + l / 16) &&& 15) := by
  have e : (h * 256 + l) + (h * 256 + l) / 16 = (h + h / 16) * 256 + ((h % 16) * 16 + (l + l / 16)) := by omega
  rw [e, rc_and8 (by omega) (by omega), rc_t3' (h % 16) (by omega) l (by omega)]
def rc_w4 (a b c d : Nat) : Nat := ((a * 256 + b) * 256 + c) * 256 + d
theorem rc_w1 {a b c d : Nat} (ha : a < 256) (hb : b < 256) (hc : c < 256) (hd : d < 256) : rc_w4 a b c d - (rc_w4 a b c d / 2 &&& 1431655765) = rc_w4 (rc_g1 a) (rc_g1 b) (rc_g1 c) (rc_g1 d) ∧ (rc_w4 a b c d / 2 &&& 1431655765) ≤ rc_w4 a b c d := by
  have h1 := rc_s1 (h := a) (M := 85) hb (rc_t1 a ha).1
  have h2 := rc_s1 (h := a * 256 + b) (M := 85 * 256 + 85) hc h1.2
  have h3 := rc_s1 (h := (a * 256 + b) * 256 + c) (M := (85 * 256 + 85) * 256 + 85) hd h2.2
  refine ⟨?_, h3.2⟩
  unfold rc_w4
  rw [show (1431655765 : Nat) = ((85 * 256 + 85) * 256 + 85) * 256 + 85 from rfl, h3.1, h2.1, h1.1]
  rfl
theorem rc_w2 {a b c d : Nat} (ha : a < 256) (hb : b < 256) (hc : c < 256) (hd : d < 256) : (rc_w4 a b c d &&& 858993459) + (rc_w4 a b c d / 4 &&& 858993459) = rc_w4 ((a &&& 51) + (a / 4 &&& 51)) ((b &&& 51) + (b / 4 &&& 51)) ((c &&& 51) + (c / 4 &&& 51)) ((d &&& 51) + (d / 4 &&& 51)) := by
  unfold rc_w4
  rw [show (858993459 : Nat) = ((51 * 256 + 51) * 256 + 51) * 256 + 51 from rfl, rc_s2 hd, rc_s2 hc, rc_s2 hb]
theorem rc_w3 {a b c d : Nat} (ha : a ≤ 68) (hb : b ≤ 68) (hc : c ≤ 68) (hd : d ≤ 68) (ha' : a % 16 ≤ 4) (hb' : b % 16 ≤ 4) (hc' : c % 16 ≤ 4) : (rc_w4 a b c d + rc_w4 a b c d / 16) &&& 252645135 = rc_w4 ((a + a / 16) &&& 15) ((b + b / 16) &&& 15) ((c + c / 16) &&& 15) ((d + d / 16) &&& 15) := by
  unfold rc_w4
  rw [show (252645135 : Nat) = ((15 * 256 + 15) * 256 + 15) * 256 + 15 from rfl, rc_s3 hd (by omega), rc_s3 hc (by omega), rc_s3 hb ha']
theorem rc_pop (w : Int32) {post : Int32 → Prop} (H : post (nI (rc_ct (rc_bt w) 32))) : wpX_ones post () w := by
  obtain ⟨n, hn, rfl⟩ := rc_of32 w
  obtain ⟨a, b, c, d, ha, hb, hc, hd, en⟩ : ∃ a b c d, a < 256 ∧ b < 256 ∧ c < 256 ∧ d < 256 ∧ n = rc_w4 a b c d :=
    ⟨n / 16777216, n / 65536 % 256, n / 256 % 256, n % 256, by omega, by omega, by omega, by omega, by unfold rc_w4; omega⟩
  have hw1 := rc_w1 ha hb hc hd
  have hw2 := rc_w2 (rc_t1 a ha).2.2 (rc_t1 b hb).2.2 (rc_t1 c hc).2.2 (rc_t1 d hd).2.2
  have hw3 := rc_w3 (rc_t2 a ha).1 (rc_t2 b hb).1 (rc_t2 c hc).1 (rc_t2 d hd).1 (rc_t2 a ha).2 (rc_t2 b hb).2 (rc_t2 c hc).2
  have B : ∀ l, l < 256 → rc_g1 l < 256 ∧ rc_g2 l ≤ 68 ∧ rc_g3 l ≤ 8 := fun l hl => ⟨(rc_t1 l hl).2.2, (rc_t2 l hl).1, by rw [rc_t3 l hl]; exact rc_ct_le _ 8⟩
  have hlt : ∀ p q r s, p < 256 → q < 256 → r < 256 → s < 256 → rc_w4 p q r s < 2 ^ 32 := by
    intro p q r s h1 h2 h3 h4
    unfold rc_w4
    omega
  have e1 : nI n - (((nI n).toUInt32 >>> ((1 : Int32).toUInt32 &&& Int32.toUInt32 31)).toInt32 &&& 1431655765) = nI (rc_w4 (rc_g1 a) (rc_g1 b) (rc_g1 c) (rc_g1 d)) := by
    rw [pk_ushrN hn 1 1 (by decide), show (1431655765 : Int32) = nI 1431655765 from rfl, rc_nand, Nat.pow_one, en, pk_sub hw1.2, hw1.1]
  have h1 := hlt _ _ _ _ (B a ha).1 (B b hb).1 (B c hc).1 (B d hd).1
  have e2 : (nI (rc_w4 (rc_g1 a) (rc_g1 b) (rc_g1 c) (rc_g1 d)) &&& 858993459) + (((nI (rc_w4 (rc_g1 a) (rc_g1 b) (rc_g1 c) (rc_g1 d))).toUInt32 >>> ((2 : Int32).toUInt32 &&& Int32.toUInt32 31)).toInt32 &&& 858993459) = nI (rc_w4 (rc_g2 a) (rc_g2 b) (rc_g2 c) (rc_g2 d)) := by
    rw [pk_ushrN h1 2 2 (by decide), show (858993459 : Int32) = nI 858993459 from rfl, rc_nand, rc_nand, nI_add]
    exact congrArg nI hw2
  have h2 := hlt _ _ _ _ (show rc_g2 a < 256 by have := (B a ha).2.1; omega) (show rc_g2 b < 256 by have := (B b hb).2.1; omega) (show rc_g2 c < 256 by have := (B c hc).2.1; omega) (show rc_g2 d < 256 by have := (B d hd).2.1; omega)
  have e3 : (nI (rc_w4 (rc_g2 a) (rc_g2 b) (rc_g2 c) (rc_g2 d)) + ((nI (rc_w4 (rc_g2 a) (rc_g2 b) (rc_g2 c) (rc_g2 d))).toUInt32 >>> ((4 : Int32).toUInt32 &&& Int32.toUInt32 31)).toInt32) &&& 252645135 = nI (rc_w4 (rc_g3 a) (rc_g3 b) (rc_g3 c) (rc_g3 d)) := by
    rw [pk_ushrN h2 4 4 (by decide), show (252645135 : Int32) = nI 252645135 from rfl, nI_add, rc_nand]
    exact congrArg nI hw3
  have e4 : (((nI (rc_w4 (rc_g3 a) (rc_g3 b) (rc_g3 c) (rc_g3 d)) * 16843009).toUInt32 >>> ((24 : Int32).toUInt32 &&& Int32.toUInt32 31)).toInt32) = nI (rc_g3 d + rc_g3 c + rc_g3 b + rc_g3 a) := by
    rw [show (16843009 : Int32) = nI 16843009 from rfl, pk_mul, rc_nmod, pk_ushrN (Nat.mod_lt _ (by decide)) 24 24 (by decide)]
    have b1 := (B a ha).2.2
    have b2 := (B b hb).2.2
    have b3 := (B c hc).2.2
    have b4 := (B d hd).2.2
    generalize rc_g3 a = p at b1
    generalize rc_g3 b = q at b2
    generalize rc_g3 c = r at b3
    generalize rc_g3 d = s at b4
    apply congrArg nI
    have key : ∀ H S lo : Nat, S ≤ 32 → lo < 16777216 → (H * 4294967296 + (S * 16777216 + lo)) % 2 ^ 32 / 2 ^ 24 = S := by
      intro H S lo h1 h2
      omega
    have e : rc_w4 p q r s * 16843009 = (p * 65536 + (p + q) * 256 + (p + q + r)) * 4294967296 + ((s + r + q + p) * 16777216 + ((q + r + s) * 65536 + (r + s) * 256 + s)) := by
      unfold rc_w4
      omega
    rw [e]
    exact key _ _ _ (by omega) (by omega)
  have e5 : rc_g3 d + rc_g3 c + rc_g3 b + rc_g3 a = rc_ct (rc_bt (nI n)) 32 := by
    have f : ∀ i, i < 32 → rc_bt (nI n) i = n.testBit i := fun i hi => rc_btn hi
    have g : ∀ k v, k + 8 ≤ 32 → v < 256 → n / 2 ^ k % 2 ^ 8 = v → rc_ct (fun i => rc_bt (nI n) (k + i)) 8 = rc_g3 v := by
      intro k v hk hv e
      rw [rc_t3 v hv]
      apply rc_ct_congr
      intro i hi
      show rc_bt (nI n) (k + i) = v.testBit i
      rw [f (k + i) (by omega), ← e, Nat.testBit_mod_two_pow, Nat.testBit_div_two_pow, Nat.add_comm i k]
      simp [hi]
    have t : rc_ct (rc_bt (nI n)) 32 = rc_ct (rc_bt (nI n)) 8 + rc_ct (fun i => rc_bt (nI n) (8 + i)) 8 + rc_ct (fun i => rc_bt (nI n) (16 + i)) 8 + rc_ct (fun i => rc_bt (nI n) (24 + i)) 8 := by
      rw [show (32 : Nat) = 24 + 8 from rfl, rc_ct_add, show (24 : Nat) = 16 + 8 from rfl, rc_ct_add, show (16 : Nat) = 8 + 8 from rfl, rc_ct_add]
    have g0 : rc_ct (rc_bt (nI n)) 8 = rc_g3 d := by
      have z := g 0 d (by omega) hd (by rw [en]; unfold rc_w4; omega)
      rw [← z]
      apply rc_ct_congr
      intro i hi
      rw [Nat.zero_add]
    rw [t, g0, g 8 c (by omega) hc (by rw [en]; unfold rc_w4; omega), g 16 b (by omega) hb (by rw [en]; unfold rc_w4; omega), g 24 a (by omega) ha (by rw [en]; unfold rc_w4; omega)]
  rw [← e5] at H
  exact nm_r e1 (nm_r e2 (nm_r e3 (by rw [e4]; exact H)))
/-! ===== the mask of a range inside a word ===== -/
theorem rc_lt_toInt {x : Int32} {n : Nat} (hn : n < 2 ^ 31) : x < nI n ↔ x.toInt < n := by rw [Int32.lt_iff_toInt_lt, nI_toInt hn]
theorem rc_toInt_nI {x : Int32} {n : Nat} (hn : n < 2 ^ 31) (h : x.toInt = n) : x = nI n := Int32.toInt_inj.mp (by rw [h, nI_toInt hn])
theorem rc_mask15 {post : Int32 → Prop} {x z : Int32} {lo : Int} (hlo : x.toInt = lo) (h31 : lo < 32) (H : ∀ m, (∀ i, i < 32 → rc_bt m i = (rc_bt z i && decide (lo ≤ i))) → post m) : wX_maskOf_15 post x z := by
  unfold wX_maskOf_15
  have h0 : (0 < x) ↔ 0 < lo := by rw [Int32.lt_iff_toInt_lt, hlo]; rfl
  refine ⟨fun hc => ?_, fun hc => ?_⟩
  · have hp := h0.mp hc
    obtain ⟨k, rfl⟩ : ∃ k : Nat, lo = k := ⟨lo.toNat, by omega⟩
    have hk : k < 32 := by omega
    have ex : x = nI k := rc_toInt_nI (by omega) hlo
    refine nm_e (H _ (fun i hi => ?_))
    rw [rc_band, rc_bnot _ hi, ex, rc_onem k hk i hi]
    congr 1
    rw [← decide_not]
    apply decide_eq_decide.mpr
    omega
  · have hp : ¬ 0 < lo := fun z => hc (h0.mpr z)
    refine H _ (fun i hi => ?_)
    rw [rc_band, rc_bnot _ hi, rc_b0]
    congr 1
    symm
    rw [decide_eq_true (by omega)]
    rfl
theorem rc_mask0 {post : Int32 → Prop} {x y : Int32} {lo hi : Int} (hlo : x.toInt = lo) (hhi : y.toInt = hi) (h31 : lo < 32) (h0 : 0 ≤ hi) (H : ∀ m, (∀ i : Nat, i < 32 → rc_bt m i = decide (lo ≤ i ∧ (i : Int) ≤ hi)) → post m) : wpX_maskOf post () x y := by
  unfold wpX_maskOf
  have h3 : (y < 31) ↔ hi < 31 := by
    rw [Int32.lt_iff_toInt_lt, hhi]; rfl
  refine ⟨fun hc => ?_, fun hc => ?_⟩
  · have hp := h3.mp hc
    obtain ⟨k, rfl⟩ : ∃ k : Nat, hi = k := ⟨hi.toNat, by omega⟩
    have ey : y = nI k := rc_toInt_nI (by omega) hhi
    refine rc_mask15 hlo h31 (fun m hm => H m (fun i hi => ?_))
    rw [hm i hi, ey, rc_twom k (by omega) i hi, ← Bool.decide_and]
    apply decide_eq_decide.mpr
    omega
  · have hp : ¬ hi < 31 := fun z => hc (h3.mpr z)
    refine rc_mask15 hlo h31 (fun m hm => H m (fun i hi => ?_))
    rw [hm i hi, rc_bm1 i hi, Bool.true_and]
    apply decide_eq_decide.mpr
    omega
/-- the mask of f .. t in word w -/
theorem rc_mask {post : Int32 → Prop} {x y : Int32} (f t w : Nat) (hx : x.toInt = (f : Int) - (32 * w : Nat)) (hy : y.toInt = (t : Int) - (32 * w : Nat)) (hf : f < 32 * w + 32) (ht : 32 * w ≤ t) (H : ∀ m, (∀ i, i < 32 → rc_bt m i = decide (f ≤ 32 * w + i ∧ 32 * w + i ≤ t)) → post m) : wpX_maskOf post () x y := by
  refine rc_mask0 hx hy (by omega) (by omega) (fun m hm => H m (fun i hi => ?_))
  rw [hm i hi]
  apply decide_eq_decide.mpr
  omega
end
section
/-! ===== pictures of words, chunks, sets ===== -/
/-- the words f 0, f 1, .. hold the picture b below N -/
def rc_wd (f : Nat → Int32) (N : Nat) (b : Nat → Bool) : Prop := ∀ x, x < N → rc_bt (f (x / 32)) (x % 32) = b x
theorem rc_wd_at {f : Nat → Int32} {N : Nat} {b : Nat → Bool} (h : rc_wd f N b) {w i : Nat} (hi : i < 32) (hw : 32 * w + i < N) : rc_bt (f w) i = b (32 * w + i) := by
  have t := h (32 * w + i) hw
  rw [show (32 * w + i) / 32 = w by omega, show (32 * w + i) % 32 = i by omega] at t
  exact t
theorem rc_wd_put {f : Nat → Int32} {N w : Nat} {b b' : Nat → Bool} {v : Int32} (h : rc_wd f N b) (hv : ∀ i, i < 32 → 32 * w + i < N → rc_bt v i = b' (32 * w + i)) (ho : ∀ x, x < N → x / 32 ≠ w → b' x = b x) : rc_wd (upd f w v) N b' := by
  intro x hx
  by_cases e : x / 32 = w
  · have t := hv (x % 32) (Nat.mod_lt _ (by decide)) (by omega)
    rw [e, pk_us, t]
    congr 1
    omega
  · rw [pk_un e, h x hx, ho x hx e]
theorem rc_wd_congr {f : Nat → Int32} {N : Nat} {b b' : Nat → Bool} (h : rc_wd f N b) (e : ∀ x, x < N → b x = b' x) : rc_wd f N b' := fun x hx => by rw [h x hx, e x hx]
def rc_list (b : Nat → Bool) (q : Nat) (d : Nat → Int32) : Prop := q = rc_ct b 128 ∧ q ≤ 8 ∧ ∀ x, x < 128 → b x = true → d (rc_ct b x) = nI x
def rc_seg (b : Nat → Bool) (X q : Nat) (d : Nat → Int32) (s e : Nat → Nat) : Prop := s q = X ∧ (∀ x, x < s 0 → b x = false) ∧ ∀ i, i < q → s i ≤ e i ∧ e i < s (i + 1) ∧ d (2 * i) = nI (s i) ∧ d (2 * i + 1) = nI (e i) ∧ (∀ x, s i ≤ x → x ≤ e i → b x = true) ∧ (∀ x, e i < x → x < s (i + 1) → b x = false)
/-- a chunk: form f, size z, parts p, cells d -/
def rc_ch (b : Nat → Bool) (f z p : Int32) (d : Nat → Int32) : Prop := z = nI (rc_ct b 128) ∧ ((f = 0 ∧ ∃ q, p = nI q ∧ rc_list b q d) ∨ (f = 1 ∧ rc_wd d 128 b) ∨ (f = 2 ∧ ∃ q, p = nI q ∧ q ≤ 4 ∧ ∃ s e, rc_seg b 128 q d s e))
/-- set 1 holds the picture B -/
def rc_ok (B : Nat → Bool) (a1 a2 a3 a4 : Nat → Int32) : Prop := ∀ c, c < 4 → rc_ch (fun x => B (128 * c + x)) (a1 (4 + c)) (a2 (4 + c)) (a3 (4 + c)) (fun j => a4 (8 * (4 + c) + j))
theorem rc_seg_le {b : Nat → Bool} {X q : Nat} {d : Nat → Int32} {s e : Nat → Nat} (h : rc_seg b X q d s e) : ∀ k i, i + k = q → s i ≤ X
  | 0, i, hk => by
    have t : i = q := by omega
    rw [t, h.1]
    exact Nat.le_refl _
  | k + 1, i, hk => by
    have t := rc_seg_le h k (i + 1) (by omega)
    obtain ⟨g1, g2, _⟩ := h.2.2 i (by omega)
    omega
theorem rc_seg_ct {b : Nat → Bool} {X q : Nat} {d : Nat → Int32} {s e : Nat → Nat} (h : rc_seg b X q d s e) {i : Nat} (hi : i < q) : rc_ct b (s (i + 1)) = rc_ct b (s i) + (e i + 1 - s i) := by
  obtain ⟨g1, g2, _, _, g5, g6⟩ := h.2.2 i hi
  rw [rc_flat (b := b) (m := e i + 1) (n := s (i + 1)) (by omega) (fun x h1 h2 => g6 x (by omega) h2), rc_full (b := b) (m := s i) (n := e i + 1) (by omega) (fun x h1 h2 => g5 x h1 (by omega))]
theorem rc_ch_congr {b b' : Nat → Bool} {f z p : Int32} {d d' : Nat → Int32} (h : rc_ch b f z p d) (hb : ∀ x, x < 128 → b x = b' x) (hd : ∀ j, j < 8 → d' j = d j) : rc_ch b' f z p d' := by
  obtain ⟨hz, h⟩ := h
  refine ⟨by rw [hz, rc_ct_congr hb], ?_⟩
  rcases h with ⟨hf, q, hp, h1, h2, h3⟩ | ⟨hf, hw⟩ | ⟨hf, q, hp, hq, s, e, hs⟩
  · refine Or.inl ⟨hf, q, hp, by rw [h1, rc_ct_congr hb], h2, fun x hx hx' => ?_⟩
    have hbx : b x = true := by rw [hb x hx]; exact hx'
    have l := rc_lt hx hbx
    rw [← rc_ct_congr (b := b) (b' := b') (n := x) (fun i hi => hb i (by omega)), hd _ (by omega)]
    exact h3 x hx hbx
  · refine Or.inr (Or.inl ⟨hf, fun x hx => ?_⟩)
    rw [hd _ (by omega), hw x hx, hb x hx]
  · refine Or.inr (Or.inr ⟨hf, q, hp, hq, s, e, hs.1, fun x hx => ?_, fun i hi => ?_⟩)
    · have l := rc_seg_le hs q 0 (by omega)
      rw [← hb x (by omega)]
      exact hs.2.1 x hx
    · obtain ⟨g1, g2, g3, g4, g5, g6⟩ := hs.2.2 i hi
      have l := rc_seg_le hs (q - (i + 1)) (i + 1) (by omega)
      refine ⟨g1, g2, by rw [hd _ (by omega)]; exact g3, by rw [hd _ (by omega)]; exact g4, fun x h1 h2 => ?_, fun x h1 h2 => ?_⟩
      · rw [← hb x (by omega)]; exact g5 x h1 h2
      · rw [← hb x (by omega)]; exact g6 x h1 h2
theorem rc_ok_congr {B B' : Nat → Bool} {a1 a2 a3 a4 : Nat → Int32} (h : rc_ok B a1 a2 a3 a4) (hb : ∀ x, x < 512 → B x = B' x) : rc_ok B' a1 a2 a3 a4 := fun c hc => rc_ch_congr (h c hc) (fun x hx => hb (128 * c + x) (by omega)) (fun _ _ => rfl)
/-! ===== places ===== -/
theorem rc_z (w : Nat) : (0 : Int32) + nI w = nI w := by rw [← nI_0, nI_add, Nat.zero_add]
theorem rc_i8 (k i : Nat) : (8 : Int32) * nI k + nI i = nI (8 * k + i) := by rw [show (8 : Int32) = nI 8 from rfl, pk_mul, nI_add]
theorem rc_i82 (k i : Nat) : (8 : Int32) * nI k + 2 * nI i = nI (8 * k + 2 * i) := by rw [show (8 : Int32) = nI 8 from rfl, show (2 : Int32) = nI 2 from rfl, pk_mul, pk_mul, nI_add]
theorem rc_i821 (k i : Nat) : (8 : Int32) * nI k + 2 * nI i + 1 = nI (8 * k + 2 * i + 1) := by rw [rc_i82, nI_1]
theorem rc_32 (w : Nat) : (32 : Int32) * nI w = nI (32 * w) := by rw [show (32 : Int32) = nI 32 from rfl, pk_mul]
theorem rc_41 (c : Nat) : (4 : Int32) * 1 + nI c = nI (4 + c) := by rw [show (4 : Int32) * 1 = nI 4 from by decide, nI_add]
theorem rc_4 (c i : Nat) : (4 : Int32) * nI c + nI i = nI (4 * c + i) := by rw [show (4 : Int32) = nI 4 from rfl, pk_mul, nI_add]
theorem rc_128 (c : Nat) : (128 : Int32) * nI c = nI (128 * c) := by rw [show (128 : Int32) = nI 128 from rfl, pk_mul]
theorem rc_128' (c : Nat) : (128 : Int32) * nI c + 128 = nI (128 * c + 128) := by rw [rc_128, show (128 : Int32) = nI 128 from rfl, nI_add]
theorem rc_msk {f w : Nat} (hf : f < 2 ^ 20) (hw : w < 2 ^ 20) : (nI f - 32 * nI w).toInt = (f : Int) - (32 * w : Nat) := by rw [rc_32, pk_sub_toInt (by omega) (by omega)]
/-! ===== load ===== -/
section
variable {post : St2 → Prop} {f0 : Int32} {a1 a2 a3 a4 a5 a6 a7 : Nat → Int32} {K q : Nat} {b : Nat → Bool}
theorem rc_load57 (hK : K < 12) (hq : a3 K = nI q) (hl : rc_list b q (fun j => a4 (8 * K + j))) (h0 : rc_wd a5 128 (fun _ => false)) (H : ∀ a, rc_wd a 128 b → post (f0, a1, a2, a3, a4, a, a6, a7)) : ∃ n, wX_load_57 post (nI K) 0 f0 n 0 a1 a2 a3 a4 a5 a6 a7 := by
  obtain ⟨hq1, hq2, hq3⟩ := hl
  have ek : (nI K).toNatClampNeg = K := nI_clamp (by omega)
  refine pk_loop (fun n i s => wX_load_57 post (nI K) 0 f0 n (nI i) a1 a2 a3 a4 s a6 a7) (fun i s => rc_wd s 128 (fun x => b x && decide (rc_ct b x < i))) q 0 a5 (by omega) ?_ ?_ ?_
  · intro x hx
    rw [h0 x hx]
    simp
  · intro n s hs
    refine ⟨pk_in K 12 hK, ?_⟩
    rw [ek, hq]
    refine pk_le q q (fun _ => H s ?_) (fun z => absurd z (by omega))
    intro x hx
    rw [hs x hx]
    dsimp only
    cases hb : b x with
    | false => rfl
    | true =>
      have l := rc_lt hx hb
      simp
      omega
  · intro n i s hi hs hw
    obtain ⟨x, hx, hbx, hcx⟩ := rc_ex (b := b) (n := 128) (j := i) (by omega)
    have hd : a4 (8 * K + i) = nI x := by
      have t := hq3 x hx hbx
      rw [hcx] at t
      exact t
    refine ⟨pk_in K 12 hK, ?_⟩
    rw [ek, hq]
    refine pk_le q i (fun z => absurd z (by omega)) (fun _ => ⟨pk_in (8 * K + i) 96 (by omega) (rc_i8 K i), nm_r (e' := nI x) (by rw [rc_i8, nI_clamp (by omega)]; exact hd) ?_⟩)
    have e5 : (0 : Int32) + (nI x >>> ((5 : Int32) &&& 31)) = nI (x / 32) := by rw [rc_s5 (by omega), rc_z]
    rw [e5, nI_clamp (by omega), rc_m31 x hx]
    refine ⟨pk_in (x / 32) 8 (by omega), pk_in (x / 32) 8 (by omega), nm_e (nm_r (nI_1 i) (hw _ (rc_wd_put hs ?_ ?_)))⟩
    · intro j hj hj2
      rw [rc_bor, rc_one (x % 32) (by omega) j hj, rc_wd_at hs hj hj2]
      by_cases e : j = x % 32
      · have e2 : 32 * (x / 32) + j = x := by omega
        rw [e2, hbx, hcx]
        simp [e]
      · have e2 : 32 * (x / 32) + j ≠ x := by omega
        rw [decide_eq_false e, Bool.or_false]
        cases hb : b (32 * (x / 32) + j) with
        | false => rfl
        | true =>
          have ne : rc_ct b (32 * (x / 32) + j) ≠ i := fun z => e2 (rc_inj hb hbx (by omega))
          simp
          omega
    · intro y hy hne
      cases hb : b y with
      | false => rfl
      | true =>
        have ne : rc_ct b y ≠ i := fun z => hne (by rw [rc_inj hb hbx (by omega)])
        simp
        omega
theorem rc_load179 {J : Int32 → (Nat → Int32) → (Nat → Int32) → (Nat → Int32) → (Nat → Int32) → (Nat → Int32) → (Nat → Int32) → (Nat → Int32) → Prop} {i f t : Nat} (hft : f ≤ t) (ht : t < 128) (h0 : rc_wd a5 128 b) (H : ∀ a, rc_wd a 128 (fun x => b x || decide (f ≤ x ∧ x ≤ t)) → J (nI (i + 1)) a1 a2 a3 a4 a a6 a7) : ∃ n, wX_load_179 post J (nI K) 0 (nI i) (nI f) (nI t) f0 n (nI (f / 32)) a1 a2 a3 a4 a5 a6 a7 := by
  refine pk_loop (fun n w s => wX_load_179 post J (nI K) 0 (nI i) (nI f) (nI t) f0 n (nI w) a1 a2 a3 a4 s a6 a7) (fun w s => f / 32 ≤ w ∧ rc_wd s 128 (fun x => b x || (decide (f ≤ x ∧ x ≤ t) && decide (x / 32 < w)))) (t / 32 + 1) (f / 32) a5 (by omega) ⟨Nat.le_refl _, ?_⟩ ?_ ?_
  · intro x hx
    rw [h0 x hx]
    dsimp only
    cases hb : b x with
    | true => simp
    | false => simp; omega
  · intro n s hs
    refine pk_lt (t / 32) (t / 32 + 1) (fun _ => nm_r (nI_1 i) (H s (rc_wd_congr hs.2 ?_))) (fun z => absurd z (by omega)) (rc_s5 (by omega))
    intro x hx
    cases hb : b x with
    | true => simp
    | false =>
      rw [Bool.false_or, Bool.false_or, ← Bool.decide_and]
      apply decide_eq_decide.mpr
      omega
  · intro n w s hw hs hn
    obtain ⟨hfw, hs⟩ := hs
    refine pk_lt (t / 32) w (fun z => absurd z (by omega)) (fun z => ⟨pk_in w 8 (by omega) (rc_z w), ?_⟩) (rc_s5 (by omega))
    refine rc_mask f t w (rc_msk (by omega) (by omega)) (rc_msk (by omega) (by omega)) (by omega) (by omega) (fun m hm => ?_)
    refine ⟨pk_in w 8 (by omega) (rc_z w), ?_⟩
    rw [rc_z, nI_clamp (by omega)]
    refine nm_e (nm_r (nI_1 w) (hn _ ⟨by omega, rc_wd_put hs ?_ ?_⟩))
    · intro j hj hj2
      rw [rc_bor, hm j hj, rc_wd_at hs hj hj2]
      cases hb : b (32 * w + j) with
      | true => simp
      | false =>
        rw [Bool.false_or, Bool.false_or, ← Bool.decide_and, ← Bool.decide_and, ← Bool.decide_or]
        apply decide_eq_decide.mpr
        omega
    · intro x hx hne
      cases hb : b x with
      | true => simp
      | false =>
        rw [Bool.false_or, Bool.false_or, ← Bool.decide_and, ← Bool.decide_and]
        apply decide_eq_decide.mpr
        omega
theorem rc_load131 {s e : Nat → Nat} (hK : K < 12) (hq : a3 K = nI q) (hq4 : q ≤ 4) (hs : rc_seg b 128 q (fun j => a4 (8 * K + j)) s e) (h0 : rc_wd a5 128 (fun _ => false)) (H : ∀ a, rc_wd a 128 b → post (f0, a1, a2, a3, a4, a, a6, a7)) : ∃ n, wX_load_131 post (nI K) 0 f0 n 0 a1 a2 a3 a4 a5 a6 a7 := by
  have ek : (nI K).toNatClampNeg = K := nI_clamp (by omega)
  refine pk_loop (fun n i u => wX_load_131 post (nI K) 0 f0 n (nI i) a1 a2 a3 a4 u a6 a7) (fun i u => rc_wd u 128 (fun x => b x && decide (x < s i))) q 0 a5 (by omega) ?_ ?_ ?_
  · intro x hx
    rw [h0 x hx]
    dsimp only
    cases hb : b x with
    | false => rfl
    | true =>
      have ne : ¬ x < s 0 := fun z => by
        rw [hs.2.1 x z] at hb
        exact absurd hb (by decide)
      rw [decide_eq_false ne]
      rfl
  · intro n u hu
    refine ⟨pk_in K 12 hK, ?_⟩
    rw [ek, hq]
    refine pk_le q q (fun _ => H u (rc_wd_congr hu ?_)) (fun z => absurd z (by omega))
    intro x hx
    rw [hs.1]
    simp [hx]
  · intro n i u hi hu hn
    obtain ⟨g1, g2, g3, g4, g5, g6⟩ := hs.2.2 i hi
    have g7 := rc_seg_le hs (q - (i + 1)) (i + 1) (by omega)
    refine ⟨pk_in K 12 hK, ?_⟩
    rw [ek, hq]
    refine pk_le q i (fun z => absurd z (by omega)) (fun _ => ⟨pk_in (8 * K + 2 * i) 96 (by omega) (rc_i82 K i), nm_r (e' := nI (s i)) ?_ ⟨pk_in (8 * K + 2 * i + 1) 96 (by omega) (rc_i821 K i), nm_r (e' := nI (e i)) ?_ (nm_r (e' := nI (s i / 32)) (rc_s5 (by omega)) ?_)⟩⟩)
    · rw [rc_i82, nI_clamp (by omega)]
      exact g3
    · rw [rc_i821, nI_clamp (by omega)]
      exact g4
    · refine rc_load179 g1 (by omega) hu (fun a ha => hn a (rc_wd_congr ha ?_))
      intro x hx
      cases hb : b x with
      | false =>
        have ne : ¬ (s i ≤ x ∧ x ≤ e i) := fun z => by
          rw [g5 x z.1 z.2] at hb
          exact absurd hb (by decide)
        rw [decide_eq_false ne]
        rfl
      | true =>
        have ne : ¬ (e i < x ∧ x < s (i + 1)) := fun z => by
          rw [g6 x z.1 z.2] at hb
          exact absurd hb (by decide)
        rw [Bool.true_and, Bool.true_and, ← Bool.decide_or]
        apply decide_eq_decide.mpr
        omega
theorem rc_load (hK : K < 12) (h : rc_ch b (a1 K) (a2 K) (a3 K) (fun j => a4 (8 * K + j))) (H : ∀ a, rc_wd a 128 b → post (f0, a1, a2, a3, a4, a, a6, a7)) : wpX_load post (f0, a1, a2, a3, a4, a5, a6, a7) (nI K) 0 := by
  have ek : (nI K).toNatClampNeg = K := nI_clamp (by omega)
  show ∃ n, wX_load_2 post (nI K) 0 f0 n 0 a1 a2 a3 a4 a5 a6 a7
  refine pk_loop (fun n i s => wX_load_2 post (nI K) 0 f0 n (nI i) a1 a2 a3 a4 s a6 a7) (fun i s => ∀ j, j < i → s j = if a1 K = 1 then a4 (8 * K + j) else 0) 4 0 a5 (by omega) (fun j hj => absurd hj (by omega)) ?_ ?_
  · intro n s hs
    have z0 : ¬ a1 K = 1 → rc_wd s 128 (fun _ => false) := by
      intro ne x hx
      rw [hs (x / 32) (by omega), if_neg ne, rc_b0]
    refine pk_le 4 4 (fun _ => ⟨pk_in K 12 hK, ?_⟩) (fun z => absurd z (by omega))
    rw [ek]
    rcases h.2 with ⟨hf, q, hp, hl⟩ | ⟨hf, hw⟩ | ⟨hf, q, hp, hq, s', e', hs'⟩
    · exact br_t hf (rc_load57 hK hp hl (z0 (by rw [hf]; decide)) H)
    · refine br_f (by rw [hf]; decide) ⟨pk_in K 12 hK, br_f (by rw [hf]; decide) (H s ?_)⟩
      intro x hx
      rw [hs (x / 32) (by omega), if_pos hf]
      exact hw x hx
    · exact br_f (by rw [hf]; decide) ⟨pk_in K 12 hK, br_t hf (rc_load131 hK hp hq hs' (z0 (by rw [hf]; decide)) H)⟩
  · intro n i s hi hs hn
    refine pk_le 4 i (fun z => absurd z (by omega)) (fun _ => ⟨pk_in K 12 hK, ?_⟩)
    rw [ek, rc_i8, rc_z, nI_clamp (show i < 2 ^ 31 by omega), nI_clamp (show 8 * K + i < 2 ^ 31 by omega)]
    have F : ∀ v, v = (if a1 K = 1 then a4 (8 * K + i) else 0) → ∀ j, j < i + 1 → upd s i v j = if a1 K = 1 then a4 (8 * K + j) else 0 := by
      intro v hv j hj
      by_cases e : j = i
      · rw [e, pk_us, hv]
      · rw [pk_un e]
        exact hs j (by omega)
    by_cases e1 : a1 K = 1
    · exact br_t e1 ⟨pk_in (8 * K + i) 96 (by omega), pk_in i 8 (by omega), nm_e (nm_r (nI_1 i) (hn _ (F _ (by rw [if_pos e1]))))⟩
    · exact br_f e1 ⟨pk_in i 8 (by omega), nm_e (nm_r (nI_1 i) (hn _ (F _ (by rw [if_neg e1]))))⟩
end
/-! ===== gather ===== -/
section
variable {post : St2 → Prop} {f0 : Int32} {a1 a2 a3 a4 a5 a6 a7 : Nat → Int32} {B : Nat → Bool}
theorem rc_gather19 {J : Int32 → Int32 → (Nat → Int32) → (Nat → Int32) → (Nat → Int32) → (Nat → Int32) → (Nat → Int32) → (Nat → Int32) → (Nat → Int32) → Prop} {c : Nat} (hc : c < 4) (h5 : rc_wd a5 128 (fun x => B (128 * c + x))) (h6 : rc_wd a6 (128 * c) B) (H : ∀ a, rc_wd a (128 * (c + 1)) B → J (nI (c + 1)) f0 a1 a2 a3 a4 a5 a a7) : ∃ n, wX_gather_19 post J 1 (nI c) f0 n 0 a1 a2 a3 a4 a5 a6 a7 := by
  refine pk_loop (fun n w s => wX_gather_19 post J 1 (nI c) f0 n (nI w) a1 a2 a3 a4 a5 s a7) (fun w s => rc_wd s (128 * c + 32 * w) B) 4 0 a6 (by omega) h6 ?_ ?_
  · intro n s hs
    exact pk_le 4 4 (fun _ => nm_r (nI_1 c) (H s (fun x hx => hs x (by omega)))) (fun z => absurd z (by omega))
  · intro n w s hw hs hn
    refine pk_le 4 w (fun z => absurd z (by omega)) (fun _ => ⟨pk_in w 8 (by omega), pk_in (4 * c + w) 16 (by omega) (rc_4 c w), ?_⟩)
    rw [rc_4, nI_clamp (show w < 2 ^ 31 by omega), nI_clamp (show 4 * c + w < 2 ^ 31 by omega)]
    refine nm_e (nm_r (nI_1 w) (hn _ ?_))
    intro x hx
    by_cases e : x / 32 = 4 * c + w
    · rw [e, pk_us, rc_wd_at h5 (by omega) (by omega)]
      show B (128 * c + (32 * w + x % 32)) = B x
      congr 1
      omega
    · rw [pk_un e]
      exact hs x (by omega)
theorem rc_gather (h : rc_ok B a1 a2 a3 a4) (H : ∀ u v, rc_wd v 512 B → post (f0, a1, a2, a3, a4, u, v, a7)) : wpX_gather post (f0, a1, a2, a3, a4, a5, a6, a7) 1 := by
  show ∃ n, wX_gather_2 post 1 n 0 f0 a1 a2 a3 a4 a5 a6 a7
  refine pk_loop (σ := (Nat → Int32) × (Nat → Int32)) (fun n c s => wX_gather_2 post 1 n (nI c) f0 a1 a2 a3 a4 s.1 s.2 a7) (fun c s => rc_wd s.2 (128 * c) B) 4 0 (a5, a6) (by omega) (fun x hx => absurd hx (by omega)) ?_ ?_
  · intro n s hs
    exact pk_le 4 4 (fun _ => H s.1 s.2 hs) (fun z => absurd z (by omega))
  · intro n c s hc hs hn
    refine pk_le 4 c (fun z => absurd z (by omega)) (fun _ => ?_)
    rw [rc_41]
    refine rc_load (by omega) (h c hc) (fun a ha => ?_)
    exact rc_gather19 hc ha hs (fun v hv => hn (a, v) hv)
end
end
section
/-! ===== a word's part of the counts ===== -/
theorem rc_bshl1 (x : Int32) {i : Nat} (hi : i < 32) : rc_bt (x <<< ((1 : Int32) &&& 31)) i = (decide (1 ≤ i) && rc_bt x (i - 1)) := rc_bshl 1 (by omega) x hi
theorem rc_bu31 (x : Int32) (i : Nat) : rc_bt ((x.toUInt32 >>> ((31 : Int32).toUInt32 &&& Int32.toUInt32 31)).toInt32) i = rc_bt x (31 + i) := rc_bushr 31 (by omega) x i
/-- the carry into word w -/
def rc_cy (b : Nat → Bool) (w : Nat) (c : Int32) : Prop := ∀ i, i < 32 → rc_bt c i = (decide (i = 0) && (decide (0 < w) && b (32 * w - 1)))
theorem rc_cy0 (b : Nat → Bool) : rc_cy b 0 0 := fun i hi => by
  rw [rc_b0]
  simp
theorem rc_cys {b : Nat → Bool} {f : Nat → Int32} {N w : Nat} (h : rc_wd f N b) (hw : 32 * w + 31 < N) : rc_cy b (w + 1) (((f w).toUInt32 >>> ((31 : Int32).toUInt32 &&& Int32.toUInt32 31)).toInt32) := by
  intro i hi
  rw [rc_bu31]
  by_cases e : i = 0
  · rw [e, rc_wd_at h (i := 31 + 0) (by omega) (by omega), decide_eq_true (show 0 < w + 1 by omega), show 32 * (w + 1) - 1 = 32 * w + (31 + 0) by omega]
    rfl
  · rw [rc_big (by omega), decide_eq_false e]
    rfl
theorem rc_ctw {b : Nat → Bool} {f : Nat → Int32} {N w : Nat} (h : rc_wd f N b) (hw : 32 * w + 32 ≤ N) : rc_ct b (32 * w) + rc_ct (rc_bt (f w)) 32 = rc_ct b (32 * (w + 1)) := by
  rw [show 32 * (w + 1) = 32 * w + 32 by omega, rc_ct_add, rc_ct_congr (fun i hi => rc_wd_at h hi (by omega))]
theorem rc_ctst {b : Nat → Bool} {f : Nat → Int32} {N w : Nat} {c : Int32} (h : rc_wd f N b) (hw : 32 * w + 32 ≤ N) (hc : rc_cy b w c) : rc_ct (rc_st b) (32 * w) + rc_ct (rc_bt (f w &&& (((f w <<< ((1 : Int32) &&& 31)) ||| c) ^^^ (-1)))) 32 = rc_ct (rc_st b) (32 * (w + 1)) := by
  rw [show 32 * (w + 1) = 32 * w + 32 by omega, rc_ct_add]
  congr 1
  apply rc_ct_congr
  intro i hi
  show _ = rc_st b (32 * w + i)
  rw [rc_band, rc_bnot _ hi, rc_bor, rc_bshl1 _ hi, hc i hi, rc_wd_at h hi (by omega)]
  unfold rc_st
  by_cases e : i = 0
  · subst e
    rw [show decide (0 < 32 * w + 0) = decide (0 < w) from decide_eq_decide.mpr (by omega)]
    simp
  · rw [rc_wd_at h (i := i - 1) (by omega) (by omega), show 32 * w + i - 1 = 32 * w + (i - 1) by omega, decide_eq_true (show 1 ≤ i by omega), decide_eq_false e, decide_eq_true (show 0 < 32 * w + i by omega)]
    simp
/-! ===== frames ===== -/
def rc_fr (K : Nat) (s a : Nat → Int32) : Prop := ∀ j, j < 8 * K ∨ 8 * K + 8 ≤ j → s j = a j
def rc_fk (K : Nat) (s a : Nat → Int32) : Prop := ∀ j, j ≠ K → s j = a j
theorem rc_fr_put {K k : Nat} {s a : Nat → Int32} {v : Int32} (h : rc_fr K s a) (h1 : 8 * K ≤ k) (h2 : k < 8 * K + 8) : rc_fr K (upd s k v) a := fun j hj => by
  rw [pk_un (by omega)]
  exact h j hj
theorem rc_fk_put {K : Nat} {s a : Nat → Int32} {v : Int32} (h : rc_fk K s a) : rc_fk K (upd s K v) a := fun j hj => by
  rw [pk_un hj]
  exact h j hj
/-! ===== a new number joins the runs ===== -/
theorem rc_seg_gap {b : Nat → Bool} {X q : Nat} {d : Nat → Int32} {s e : Nat → Nat} (h : rc_seg b X q d s e) (hb : b X = false) : ∃ s' e', rc_seg b (X + 1) q d s' e' := by
  obtain ⟨h1, h2, h3⟩ := h
  refine ⟨fun i => if i = q then X + 1 else s i, e, if_pos rfl, ?_, ?_⟩
  · intro x hx
    by_cases e0 : 0 = q
    · dsimp only at hx
      rw [if_pos e0] at hx
      by_cases ex : x = X
      · rw [ex, hb]
      · exact h2 x (by rw [e0, h1]; omega)
    · dsimp only at hx
      rw [if_neg e0] at hx
      exact h2 x hx
  · intro i hi
    obtain ⟨g1, g2, g3, g4, g5, g6⟩ := h3 i hi
    dsimp only
    rw [if_neg (show ¬ i = q by omega)]
    by_cases e1 : i + 1 = q
    · rw [if_pos e1]
      rw [e1, h1] at g2 g6
      refine ⟨g1, by omega, g3, g4, g5, fun x hx hx2 => ?_⟩
      by_cases ex : x = X
      · rw [ex, hb]
      · exact g6 x hx (by omega)
    · rw [if_neg e1]
      exact ⟨g1, g2, g3, g4, g5, g6⟩
theorem rc_seg_new {b : Nat → Bool} {X q : Nat} {d d' : Nat → Int32} {s e : Nat → Nat} (h : rc_seg b X q d s e) (hb : b X = true) (hd : ∀ j, j < 2 * q → d' j = d j) (hd0 : d' (2 * q) = nI X) (hd1 : d' (2 * q + 1) = nI X) : ∃ s' e', rc_seg b (X + 1) (q + 1) d' s' e' := by
  obtain ⟨h1, h2, h3⟩ := h
  refine ⟨fun i => if i = q + 1 then X + 1 else s i, fun i => if i = q then X else e i, if_pos rfl, ?_, ?_⟩
  · intro x hx
    dsimp only at hx
    rw [if_neg (by omega)] at hx
    exact h2 x hx
  · intro i hi
    dsimp only
    rw [if_neg (show ¬ i = q + 1 by omega)]
    by_cases ei : i = q
    · subst ei
      rw [if_pos rfl, if_pos rfl, h1]
      refine ⟨Nat.le_refl _, by omega, hd0, hd1, fun x hx hx2 => ?_, fun x hx hx2 => absurd hx (by omega)⟩
      rw [show x = X by omega, hb]
    · obtain ⟨g1, g2, g3, g4, g5, g6⟩ := h3 i (by omega)
      rw [if_neg ei, if_neg (show ¬ i + 1 = q + 1 by omega), hd _ (by omega), hd _ (by omega)]
      exact ⟨g1, g2, g3, g4, g5, g6⟩
theorem rc_seg_ext {b : Nat → Bool} {X q : Nat} {d d' : Nat → Int32} {s e : Nat → Nat} (h : rc_seg b X (q + 1) d s e) (hb : b X = true) (hX : 0 < X) (hb1 : b (X - 1) = true) (hd : ∀ j, j < 2 * q + 1 → d' j = d j) (hd1 : d' (2 * q + 1) = nI X) : ∃ s' e', rc_seg b (X + 1) (q + 1) d' s' e' := by
  obtain ⟨h1, h2, h3⟩ := h
  refine ⟨fun i => if i = q + 1 then X + 1 else s i, fun i => if i = q then X else e i, if_pos rfl, ?_, ?_⟩
  · intro x hx
    dsimp only at hx
    rw [if_neg (by omega)] at hx
    exact h2 x hx
  · intro i hi
    obtain ⟨g1, g2, g3, g4, g5, g6⟩ := h3 i hi
    dsimp only
    rw [if_neg (show ¬ i = q + 1 by omega)]
    by_cases ei : i = q
    · subst ei
      rw [h1] at g2 g6
      have ee : ¬ e i < X - 1 := fun z => by
        rw [g6 (X - 1) z (by omega)] at hb1
        exact absurd hb1 (by decide)
      rw [if_pos rfl, if_pos rfl, hd _ (by omega)]
      refine ⟨by omega, by omega, g3, hd1, fun x hx hx2 => ?_, fun x hx hx2 => absurd hx (by omega)⟩
      by_cases ex : x = X
      · rw [ex, hb]
      · exact g5 x hx (by omega)
    · rw [if_neg ei, if_neg (show ¬ i + 1 = q + 1 by omega), hd _ (by omega), hd _ (by omega)]
      exact ⟨g1, g2, g3, g4, g5, g6⟩
/-! ===== save ===== -/
section
variable {post : St2 → Prop} {f0 : Int32} {a1 a2 a3 a4 a5 a6 a7 : Nat → Int32} {K : Nat} {b : Nat → Bool}
theorem rc_inb {P : Int32 → Prop} {x : Nat} (hx : x < 128) (h5 : rc_wd a5 128 b) (h1 : b x = true → P 1) (h0 : b x = false → P 0) : wpX_inBuffer P (f0, a1, a2, a3, a4, a5, a6, a7) (nI x) := by
  unfold wpX_inBuffer
  dsimp only
  rw [rc_s5 (n := x) (by omega), rc_m31 x hx, nI_clamp (show x / 32 < 2 ^ 31 by omega)]
  refine ⟨pk_in (x / 32) 8 (by omega), ek_if (rc_ask1 (a5 (x / 32)) (x % 32) (by omega)) ?_ ?_⟩
  · intro h
    rw [h5 x hx] at h
    exact h1 h
  · intro h
    rw [h5 x hx] at h
    exact h0 (by cases hb : b x with
      | false => rfl
      | true => exact absurd hb h)
theorem rc_save210 (hK : K < 12) (h5 : rc_wd a5 128 b) (H : ∀ v, rc_wd (fun j => v (8 * K + j)) 128 b → rc_fr K v a4 → post (f0, a1, a2, a3, v, a5, a6, a7)) : ∃ n, wX_save_210 post (nI K) f0 n 0 a1 a2 a3 a4 a5 a6 a7 := by
  refine pk_loop (fun n w s => wX_save_210 post (nI K) f0 n (nI w) a1 a2 a3 s a5 a6 a7) (fun w s => (∀ j, j < w → s (8 * K + j) = a5 j) ∧ rc_fr K s a4) 4 0 a4 (by omega) ⟨fun j hj => absurd hj (by omega), fun j hj => rfl⟩ ?_ ?_
  · intro n s hs
    refine pk_le 4 4 (fun _ => H s (fun x hx => ?_) hs.2) (fun z => absurd z (by omega))
    show rc_bt (s (8 * K + x / 32)) (x % 32) = b x
    rw [hs.1 (x / 32) (by omega)]
    exact h5 x hx
  · intro n w s hw hs hn
    refine pk_le 4 w (fun z => absurd z (by omega)) (fun _ => ⟨pk_in w 8 (by omega), pk_in (8 * K + w) 96 (by omega) (rc_i8 K w), ?_⟩)
    rw [rc_i8, nI_clamp (show w < 2 ^ 31 by omega), nI_clamp (show 8 * K + w < 2 ^ 31 by omega)]
    refine nm_e (nm_r (nI_1 w) (hn _ ⟨fun j hj => ?_, rc_fr_put hs.2 (by omega) (by omega)⟩))
    by_cases e : j = w
    · rw [e, pk_us]
    · rw [pk_un (by omega)]
      exact hs.1 j (by omega)
theorem rc_save139 (hK : K < 12) (h5 : rc_wd a5 128 b) (hz : rc_ct b 128 ≤ 8) (h3 : a3 K = 0) (H : ∀ u v, u K = nI (rc_ct b 128) → rc_list b (rc_ct b 128) (fun j => v (8 * K + j)) → rc_fk K u a3 → rc_fr K v a4 → post (f0, a1, a2, u, v, a5, a6, a7)) : ∃ n, wX_save_139 post (nI K) f0 n 0 a1 a2 a3 a4 a5 a6 a7 := by
  have ek : (nI K).toNatClampNeg = K := nI_clamp (by omega)
  refine pk_loop (σ := (Nat → Int32) × (Nat → Int32)) (fun n x s => wX_save_139 post (nI K) f0 n (nI x) a1 a2 s.1 s.2 a5 a6 a7) (fun x s => s.1 K = nI (rc_ct b x) ∧ (∀ y, y < x → b y = true → s.2 (8 * K + rc_ct b y) = nI y) ∧ rc_fk K s.1 a3 ∧ rc_fr K s.2 a4) 128 0 (a3, a4) (by omega) ⟨h3, fun j hj => absurd hj (by omega), fun j hj => rfl, fun j hj => rfl⟩ ?_ ?_
  · intro n s hs
    exact pk_le 128 128 (fun _ => H s.1 s.2 hs.1 ⟨rfl, hz, hs.2.1⟩ hs.2.2.1 hs.2.2.2) (fun z => absurd z (by omega))
  · intro n x s hx hs hn
    obtain ⟨g1, g2, g3, g4⟩ := hs
    refine pk_le 128 x (fun z => absurd z (by omega)) (fun _ => rc_inb hx h5 (fun hb => ?_) (fun hb => ?_))
    · have l := rc_lt hx hb
      refine br_f (by decide) ⟨pk_in K 12 hK, ?_⟩
      rw [ek, g1, rc_i8, nI_clamp (show 8 * K + rc_ct b x < 2 ^ 31 by omega)]
      refine ⟨pk_in (8 * K + rc_ct b x) 96 (by omega), nm_e ⟨pk_in K 12 hK, pk_in K 12 hK, nm_e (nm_r (nI_1 x) (hn (_, _) ⟨?_, ?_, rc_fk_put g3, rc_fr_put g4 (by omega) (by omega)⟩))⟩⟩
      · show upd s.1 K (nI (rc_ct b x) + 1) K = _
        rw [pk_us, nI_1, rc_ct_t hb]
      · intro y hy hby
        show upd s.2 (8 * K + rc_ct b x) (nI x) (8 * K + rc_ct b y) = nI y
        by_cases e : y = x
        · rw [e, pk_us]
        · have l2 := rc_lt (show y < x by omega) hby
          rw [pk_un (by omega)]
          exact g2 y (by omega) hby
    · refine br_t rfl (nm_r (nI_1 x) (hn s ⟨?_, ?_, g3, g4⟩))
      · rw [rc_ct_f hb]
        exact g1
      · intro y hy hby
        by_cases e : y = x
        · rw [e, hb] at hby
          exact absurd hby (by decide)
        · exact g2 y (by omega) hby
theorem rc_sr60 {J : Int32 → (Nat → Int32) → (Nat → Int32) → (Nat → Int32) → (Nat → Int32) → (Nat → Int32) → (Nat → Int32) → (Nat → Int32) → Prop} {q x : Nat} (hK : K < 12) (h3 : a3 K = nI (q + 1)) (hq : q < 4) (H : J (nI (x + 1)) a1 a2 a3 (upd a4 (8 * K + 2 * q + 1) (nI x)) a5 a6 a7) : wX_saveRuns_60 post J (nI K) (nI x) f0 a1 a2 a3 a4 a5 a6 a7 := by
  have ek : (nI K).toNatClampNeg = K := nI_clamp (by omega)
  have ei : (8 : Int32) * nI K + 2 * nI (q + 1) - 1 = nI (8 * K + 2 * q + 1) := by
    rw [rc_i82, show 8 * K + 2 * (q + 1) = (8 * K + 2 * q + 1) + 1 by omega, nI_pred]
  unfold wX_saveRuns_60
  rw [ek, h3, ei, nI_clamp (show 8 * K + 2 * q + 1 < 2 ^ 31 by omega)]
  exact ⟨pk_in K 12 hK, pk_in (8 * K + 2 * q + 1) 96 (by omega), nm_e (nm_r (nI_1 x) H)⟩
theorem rc_sr31 {J : Int32 → (Nat → Int32) → (Nat → Int32) → (Nat → Int32) → (Nat → Int32) → (Nat → Int32) → (Nat → Int32) → (Nat → Int32) → Prop} {q x : Nat} (hK : K < 12) (h3 : a3 K = nI q) (hq : q < 4) (H : J (nI (x + 1)) a1 a2 (upd a3 K (nI (q + 1))) (upd (upd a4 (8 * K + 2 * q) (nI x)) (8 * K + 2 * q + 1) (nI x)) a5 a6 a7) : wX_saveRuns_31 post J (nI K) (nI x) f0 a1 a2 a3 a4 a5 a6 a7 := by
  have ek : (nI K).toNatClampNeg = K := nI_clamp (by omega)
  unfold wX_saveRuns_31
  rw [ek, h3, rc_i82, nI_clamp (show 8 * K + 2 * q < 2 ^ 31 by omega), nI_1]
  exact ⟨pk_in K 12 hK, pk_in (8 * K + 2 * q) 96 (by omega), nm_e ⟨pk_in K 12 hK, pk_in K 12 hK, nm_e (rc_sr60 hK pk_us hq H)⟩⟩
theorem rc_saveRuns (hK : K < 12) (h5 : rc_wd a5 128 b) (hz : rc_ct (rc_st b) 128 ≤ 4) (h3 : a3 K = 0) (H : ∀ u v s e, u K = nI (rc_ct (rc_st b) 128) → rc_seg b 128 (rc_ct (rc_st b) 128) (fun j => v (8 * K + j)) s e → rc_fk K u a3 → rc_fr K v a4 → post (f0, a1, a2, u, v, a5, a6, a7)) : wpX_saveRuns post (f0, a1, a2, a3, a4, a5, a6, a7) (nI K) := by
  show ∃ n, wX_saveRuns_2 post (nI K) f0 n 0 a1 a2 a3 a4 a5 a6 a7
  refine pk_loop (σ := (Nat → Int32) × (Nat → Int32)) (fun n x s => wX_saveRuns_2 post (nI K) f0 n (nI x) a1 a2 s.1 s.2 a5 a6 a7) (fun x s => s.1 K = nI (rc_ct (rc_st b) x) ∧ (∃ S E, rc_seg b x (rc_ct (rc_st b) x) (fun j => s.2 (8 * K + j)) S E) ∧ rc_fk K s.1 a3 ∧ rc_fr K s.2 a4) 128 0 (a3, a4) (by omega) ⟨h3, ⟨fun _ => 0, fun _ => 0, rfl, fun x hx => absurd hx (Nat.not_lt_zero _), fun i hi => absurd hi (Nat.not_lt_zero _)⟩, fun j hj => rfl, fun j hj => rfl⟩ ?_ ?_
  · intro n s hs
    obtain ⟨g1, ⟨S, E, g2⟩, g3, g4⟩ := hs
    exact pk_le 128 128 (fun _ => H s.1 s.2 S E g1 g2 g3 g4) (fun z => absurd z (by omega))
  · intro n x s hx hs hn
    obtain ⟨g1, ⟨S, E, g2⟩, g3, g4⟩ := hs
    have N : b x = true → (x = 0 ∨ b (x - 1) = false) → wX_saveRuns_31 post (wX_saveRuns_2 post (nI K) f0 n) (nI K) (nI x) f0 a1 a2 s.1 s.2 a5 a6 a7 := by
      intro hb h0
      have hst := rc_st_1 hb h0
      have l := rc_lt hx hst
      refine rc_sr31 hK g1 (by omega) (hn (_, _) ⟨?_, ?_, rc_fk_put g3, rc_fr_put (rc_fr_put g4 (by omega) (by omega)) (by omega) (by omega)⟩)
      · show upd s.1 K (nI (rc_ct (rc_st b) x + 1)) K = _
        rw [pk_us, rc_ct_t hst]
      · rw [rc_ct_t hst]
        refine rc_seg_new g2 hb (fun j hj => ?_) ?_ ?_
        · show upd (upd s.2 _ _) _ _ (8 * K + j) = s.2 (8 * K + j)
          rw [pk_un (by omega), pk_un (by omega)]
        · show upd (upd s.2 _ _) _ _ (8 * K + 2 * rc_ct (rc_st b) x) = nI x
          rw [pk_un (by omega), pk_us]
        · show upd (upd s.2 _ _) _ _ (8 * K + 2 * rc_ct (rc_st b) x + 1) = nI x
          rw [pk_us]
    refine pk_le 128 x (fun z => absurd z (by omega)) (fun _ => rc_inb hx h5 (fun hb => ?_) (fun hb => ?_))
    · refine br_f (by decide) (pk_eq x 0 (fun e => N hb (Or.inl e)) (fun e => ?_))
      rw [show nI x - 1 = nI (x - 1) from by rw [show x = (x - 1) + 1 by omega, nI_pred]; rfl]
      refine rc_inb (by omega) h5 (fun hb1 => ?_) (fun hb1 => ?_)
      · have hst := rc_st_2 (b := b) (show 0 < x by omega) hb1
        have hq : rc_ct (rc_st b) x ≠ 0 := fun z => by
          rw [z] at g2
          have t := g2.2.1 (x - 1) (by rw [g2.1]; omega)
          rw [t] at hb1
          exact absurd hb1 (by decide)
        obtain ⟨q, eq⟩ : ∃ q, rc_ct (rc_st b) x = q + 1 := ⟨rc_ct (rc_st b) x - 1, by omega⟩
        have l := rc_ct_mono (rc_st b) (show x ≤ 128 by omega)
        rw [eq] at g1 g2
        refine br_f (by decide) (rc_sr60 hK g1 (by omega) (hn (s.1, upd s.2 (8 * K + 2 * q + 1) (nI x)) ⟨?_, ?_, g3, rc_fr_put g4 (by omega) (by omega)⟩))
        · show s.1 K = _
          rw [rc_ct_f hst, eq]
          exact g1
        · rw [rc_ct_f hst, eq]
          refine rc_seg_ext g2 hb (by omega) hb1 (fun j hj => ?_) ?_
          · show upd s.2 _ _ (8 * K + j) = s.2 (8 * K + j)
            rw [pk_un (by omega)]
          · show upd s.2 _ _ (8 * K + 2 * q + 1) = nI x
            rw [pk_us]
      · exact br_t rfl (N hb (Or.inr hb1))
    · have hst := rc_st_0 hb
      refine br_t rfl (nm_r (nI_1 x) (hn s ⟨?_, ?_, g3, g4⟩))
      · rw [rc_ct_f hst]
        exact g1
      · rw [rc_ct_f hst]
        exact rc_seg_gap g2 hb
theorem rc_save116 (hK : K < 12) (h5 : rc_wd a5 128 b) (h2 : a2 K = nI (rc_ct b 128)) (H : ∀ t u v, rc_ch b (t K) (a2 K) (u K) (fun j => v (8 * K + j)) → rc_fk K t a1 → rc_fk K u a3 → rc_fr K v a4 → post (f0, t, a2, u, v, a5, a6, a7)) : wX_save_116 post (nI K) (nI (rc_ct b 128)) f0 a1 a2 a3 a4 a5 a6 a7 := by
  have ek : (nI K).toNatClampNeg = K := nI_clamp (by omega)
  have lz := rc_ct_le b 128
  unfold wX_save_116
  rw [ek]
  refine pk_lt 8 (rc_ct b 128) (fun z => ⟨pk_in K 12 hK, nm_e ⟨pk_in K 12 hK, nm_e ?_⟩⟩) (fun z => ⟨pk_in K 12 hK, nm_e ⟨pk_in K 12 hK, nm_e ?_⟩⟩)
  · refine rc_save210 hK h5 (fun v hv hf => H _ _ v ?_ (rc_fk_put (fun j hj => rfl)) (rc_fk_put (fun j hj => rfl)) hf)
    rw [pk_us, pk_us]
    exact ⟨h2, Or.inr (Or.inl ⟨rfl, hv⟩)⟩
  · refine rc_save139 hK h5 z pk_us (fun u v hu hl hk hf => H _ u v ?_ (rc_fk_put (fun j hj => rfl)) (fun j hj => ?_) hf)
    · rw [pk_us]
      exact ⟨h2, Or.inl ⟨rfl, _, hu, hl⟩⟩
    · rw [hk j hj, pk_un hj]
theorem rc_save (hK : K < 12) (h5 : rc_wd a5 128 b) (H : ∀ s t u v, rc_ch b (s K) (t K) (u K) (fun j => v (8 * K + j)) → rc_fk K s a1 → rc_fk K t a2 → rc_fk K u a3 → rc_fr K v a4 → post (f0, s, t, u, v, a5, a6, a7)) : wpX_save post (f0, a1, a2, a3, a4, a5, a6, a7) (nI K) := by
  have ek : (nI K).toNatClampNeg = K := nI_clamp (by omega)
  have lz := rc_ct_le b 128
  have lp := rc_ct_le (rc_st b) 128
  show ∃ n, wX_save_10 post (nI K) f0 a1 a2 a3 a4 a5 a6 a7 n 0 0 0 0
  refine pk_loop (fun n w s => wX_save_10 post (nI K) f0 a1 a2 a3 a4 a5 a6 a7 n (nI (rc_ct b (32 * w))) (nI (rc_ct (rc_st b) (32 * w))) s (nI w)) (fun w s => rc_cy b w s) 4 0 0 (by omega) (rc_cy0 b) ?_ ?_
  · intro n s hs
    show wX_save_10 post (nI K) f0 a1 a2 a3 a4 a5 a6 a7 (n + 1) (nI (rc_ct b 128)) (nI (rc_ct (rc_st b) 128)) s (nI 4)
    have S : wX_save_116 post (nI K) (nI (rc_ct b 128)) f0 a1 (upd a2 K (nI (rc_ct b 128))) a3 a4 a5 a6 a7 := rc_save116 hK h5 pk_us (fun t u v hc h1 h2 h3 => H t _ u v hc h1 (rc_fk_put (fun j hj => rfl)) h2 h3)
    refine pk_le 4 4 (fun _ => ⟨pk_in K 12 hK, ?_⟩) (fun z => absurd z (by omega))
    rw [ek]
    refine nm_e (pk_lt 4 (rc_ct (rc_st b) 128) (fun _ => S) (fun z => ?_))
    refine pk_le (rc_ct b 128) (2 * rc_ct (rc_st b) 128) (fun _ => S) (fun _ => ⟨pk_in K 12 hK, nm_e ⟨pk_in K 12 hK, nm_e ?_⟩⟩) rfl (by rw [show (2 : Int32) = nI 2 from rfl, pk_mul])
    refine rc_saveRuns hK h5 z pk_us (fun u v s e hu hs' hk hf => H _ _ u v ?_ (rc_fk_put (fun j hj => rfl)) (rc_fk_put (fun j hj => rfl)) (fun j hj => ?_) hf)
    · rw [pk_us, pk_us]
      exact ⟨rfl, Or.inr (Or.inr ⟨rfl, _, hu, z, s, e, hs'⟩)⟩
    · rw [hk j hj, pk_un hj]
  · intro n w s hw hs hn
    have hn' := hn _ (rc_cys h5 (show 32 * w + 31 < 128 by omega))
    rw [← rc_ctw h5 (show 32 * w + 32 ≤ 128 by omega), ← rc_ctst h5 (show 32 * w + 32 ≤ 128 by omega) hs, ← nI_add, ← nI_add] at hn'
    refine pk_le 4 w (fun z => absurd z (by omega)) (fun _ => ⟨pk_in w 8 (by omega), ?_⟩)
    rw [nI_clamp (show w < 2 ^ 31 by omega)]
    refine rc_pop _ (nm_e ⟨pk_in w 8 (by omega), pk_in w 8 (by omega), rc_pop _ (nm_e ⟨pk_in w 8 (by omega), nm_e (nm_r (nI_1 w) hn')⟩)⟩)
end
end
section
/-! ===== pure rows for the questions ===== -/
theorem rc_ctc (B : Nat → Bool) (c : Nat) : rc_ct B (128 * (c + 1)) = rc_ct B (128 * c) + rc_ct (fun x => B (128 * c + x)) 128 := by
  rw [show 128 * (c + 1) = 128 * c + 128 by omega, rc_ct_add]
theorem rc_clip (c : Nat → Bool) (m n : Nat) : rc_ct (fun i => c i && decide (i < m)) n = rc_ct c (min m n) := by
  induction n with
  | zero => rw [Nat.min_zero]; rfl
  | succ n ih =>
    show rc_ct (fun i => c i && decide (i < m)) n + (c n && decide (n < m)).toNat = _
    rw [ih]
    by_cases h : n < m
    · rw [show min m (n + 1) = n + 1 by omega, show min m n = n by omega, rc_ct_s, decide_eq_true h, Bool.and_true]
    · rw [show min m (n + 1) = m by omega, show min m n = m by omega, decide_eq_false h, Bool.and_false]
      rfl
theorem rc_seg_min {b : Nat → Bool} {X q L : Nat} {d : Nat → Int32} {s e : Nat → Nat} (h : rc_seg b X q d s e) {i : Nat} (hi : i < q) : rc_ct b (min L (s (i + 1))) = rc_ct b (min L (s i)) + (min L (e i + 1) - s i) := by
  obtain ⟨g1, g2, _, _, g5, g6⟩ := h.2.2 i hi
  by_cases c1 : L ≤ s i
  · rw [show min L (s (i + 1)) = L by omega, show min L (s i) = L by omega, show min L (e i + 1) - s i = 0 by omega, Nat.add_zero]
  · rw [show min L (s i) = s i by omega]
    by_cases c2 : L ≤ e i + 1
    · rw [show min L (s (i + 1)) = L by omega, show min L (e i + 1) = L by omega]
      exact rc_full (by omega) (fun x h1 h2 => g5 x h1 (by omega))
    · rw [show min L (e i + 1) = e i + 1 by omega, rc_flat (b := b) (m := e i + 1) (n := min L (s (i + 1))) (by omega) (fun x h1 h2 => g6 x (by omega) (by omega))]
      exact rc_full (by omega) (fun x h1 h2 => g5 x h1 (by omega))
theorem rc_j82 (k i : Nat) : nI k + 2 * nI i = nI (k + 2 * i) := by rw [show (2 : Int32) = nI 2 from rfl, pk_mul, nI_add]
theorem rc_j821 (k i : Nat) : nI k + 2 * nI i + 1 = nI (k + 2 * i + 1) := by rw [rc_j82, nI_1]
theorem rc_m127 {n : Nat} (h : n < 2 ^ 31) : nI n &&& 127 = nI (n % 128) := pk_andN (by omega) 7 (by decide)
theorem rc_8 (k : Nat) : (8 : Int32) * nI k = nI (8 * k) := by rw [show (8 : Int32) = nI 8 from rfl, pk_mul]
theorem rc_isSet {P : Int32 → Prop} (h : P 1) : wpX_isSet P () 1 := br_f (by decide) (br_f (by decide) h)
theorem rc_isNum {P : Int32 → Prop} {n : Nat} (hn : n < 512) (h : P 1) : wpX_isNumber P () (nI n) := br_f (nI_pos (by omega)) (br_f (nI_nlt (a := 511) (b := n) (by omega) (by omega)) h)
theorem rc_isRange {P : Int32 → Prop} {m n : Nat} (hm : m ≤ n) (hn : n < 512) (h : P 1) : wpX_isRange P () (nI m) (nI n) := br_f (nI_pos (by omega)) (br_f (nI_nlt (by omega) (by omega)) (br_f (nI_nlt (a := 511) (b := n) (by omega) (by omega)) h))
/-! ===== total, below, selectIn, nextIn ===== -/
section
variable {P : Int32 → Prop} {f0 : Int32} {a1 a2 a3 a4 a5 a6 a7 : Nat → Int32} {K q L r : Nat} {b B : Nat → Bool}
theorem rc_total (h : rc_ok B a1 a2 a3 a4) (H : P (nI (rc_ct B 512))) : wpX_total P (f0, a1, a2, a3, a4, a5, a6, a7) 1 := by
  show ∃ n, wX_total_4 P 1 f0 a1 a2 a3 a4 a5 a6 a7 n 0 0
  refine pk_loop (σ := Unit) (fun n c _ => wX_total_4 P 1 f0 a1 a2 a3 a4 a5 a6 a7 n (nI (rc_ct B (128 * c))) (nI c)) (fun _ _ => True) 4 0 () (by omega) trivial ?_ ?_
  · intro n _ _
    exact pk_le 4 4 (fun _ => H) (fun z => absurd z (by omega))
  · intro n c _ hc _ hn
    have hn' := hn () trivial
    rw [rc_ctc B c, ← nI_add] at hn'
    refine pk_le 4 c (fun z => absurd z (by omega)) (fun _ => ⟨pk_in (4 + c) 12 (by omega) (rc_41 c), nm_r (e' := nI (rc_ct B (128 * c)) + nI (rc_ct (fun x => B (128 * c + x)) 128)) ?_ (nm_r (nI_1 c) hn')⟩)
    rw [rc_41, nI_clamp (by omega), (h c hc).1]
theorem rc_below35 (hK : K < 12) (hL : L < 128) (hw : rc_wd (fun j => a4 (8 * K + j)) 128 b) (H : P (nI (rc_ct b L))) : ∃ n, wX_below_35 P (nI L) (nI (8 * K)) f0 a1 a2 a3 a4 a5 a6 a7 n 0 0 := by
  have t : ∃ n, wX_below_35 P (nI L) (nI (8 * K)) f0 a1 a2 a3 a4 a5 a6 a7 n (nI (rc_ct b (min L (32 * 0)))) (nI 0) := by
    refine pk_loop (σ := Unit) (fun n w _ => wX_below_35 P (nI L) (nI (8 * K)) f0 a1 a2 a3 a4 a5 a6 a7 n (nI (rc_ct b (min L (32 * w)))) (nI w)) (fun _ _ => True) 4 0 () (by omega) trivial ?_ ?_
    · intro n _ _
      rw [show min L (32 * 4) = L by omega]
      exact pk_le 4 4 (fun _ => H) (fun z => absurd z (by omega))
    · intro n w _ hw4 _ hn
      have hn' := hn () trivial
      have ei : nI (8 * K) + nI w = nI (8 * K + w) := nI_add _ _
      refine pk_le 4 w (fun z => absurd z (by omega)) (fun _ => pk_lt (32 * w) L (fun z => ?_) (fun z => ?_) (rc_32 w))
      · refine rc_mask (32 * w) (L - 1) w (by rw [Int.sub_self]; rfl) (by rw [show (1 : Int32) = nI 1 from rfl, pk_sub (by omega), rc_32, pk_sub_toInt (by omega) (by omega)]) (by omega) (by omega) (fun m hm => ?_)
        unfold wX_below_67
        rw [ei, nI_clamp (show 8 * K + w < 2 ^ 31 by omega)]
        refine ⟨pk_in (8 * K + w) 96 (by omega), rc_pop _ (nm_r (e' := nI (rc_ct b (min L (32 * (w + 1))))) ?_ (nm_r (nI_1 w) hn'))⟩
        rw [nI_add]
        apply congrArg nI
        have e : rc_ct (rc_bt (a4 (8 * K + w) &&& m)) 32 = rc_ct (fun i => b (32 * w + i) && decide (i < L - 32 * w)) 32 := by
          apply rc_ct_congr
          intro i hi
          rw [rc_band, hm i hi, rc_wd_at hw hi (by omega)]
          congr 1
          apply decide_eq_decide.mpr
          omega
        rw [e, rc_clip (fun i => b (32 * w + i)), show min L (32 * w) = 32 * w by omega, ← rc_ct_add, show 32 * w + min (L - 32 * w) 32 = min L (32 * (w + 1)) by omega]
      · unfold wX_below_67
        rw [ei, nI_clamp (show 8 * K + w < 2 ^ 31 by omega)]
        refine ⟨pk_in (8 * K + w) 96 (by omega), rc_pop _ (nm_r (e' := nI (rc_ct b (min L (32 * (w + 1))))) ?_ (nm_r (nI_1 w) hn'))⟩
        rw [nI_add]
        apply congrArg nI
        rw [rc_ct_0 (b := rc_bt (a4 (8 * K + w) &&& 0)) (n := 32) (fun i hi => by rw [rc_band, rc_b0, Bool.and_false]), show min L (32 * w) = L by omega, show min L (32 * (w + 1)) = L by omega, Nat.add_zero]
  rw [show min L (32 * 0) = 0 by omega] at t
  exact t
theorem rc_below107 (hK : K < 12) (hL : L < 128) (hq : a3 K = nI q) (hl : rc_list b q (fun j => a4 (8 * K + j))) (H : P (nI (rc_ct b L))) : ∃ n, wX_below_107 P (nI K) (nI L) (nI (8 * K)) f0 a1 a2 a3 a4 a5 a6 a7 n 0 := by
  obtain ⟨hq1, hq2, hq3⟩ := hl
  have ek : (nI K).toNatClampNeg = K := nI_clamp (by omega)
  have lm := rc_ct_mono b (show L ≤ 128 by omega)
  have ei : ∀ i, nI (8 * K) + nI i = nI (8 * K + i) := fun i => nI_add _ _
  refine pk_loop (σ := Unit) (fun n i _ => wX_below_107 P (nI K) (nI L) (nI (8 * K)) f0 a1 a2 a3 a4 a5 a6 a7 n (nI i)) (fun _ _ => True) (rc_ct b L) 0 () (by omega) trivial ?_ ?_
  · intro n _ _
    refine ⟨pk_in K 12 hK, ?_⟩
    rw [ek, hq, ei, nI_clamp (show 8 * K + rc_ct b L < 2 ^ 31 by omega)]
    refine pk_le q (rc_ct b L) (fun _ => H) (fun z => ⟨pk_in (8 * K + rc_ct b L) 96 (by omega), ?_⟩)
    obtain ⟨x, hx, hbx, hcx⟩ := rc_ex (b := b) (n := 128) (j := rc_ct b L) (by omega)
    have hd : a4 (8 * K + rc_ct b L) = nI x := by
      have t := hq3 x hx hbx
      rw [hcx] at t
      exact t
    rw [hd]
    refine pk_le L x (fun _ => H) (fun z2 => ?_)
    have l := rc_lt z2 hbx
    exact absurd l (by omega)
  · intro n i _ hi _ hn
    obtain ⟨x, hx, hbx, hcx⟩ := rc_ex (b := b) (n := L) (j := i) hi
    have hd : a4 (8 * K + i) = nI x := by
      have t := hq3 x (by omega) hbx
      rw [hcx] at t
      exact t
    refine ⟨pk_in K 12 hK, ?_⟩
    rw [ek, hq, ei, nI_clamp (show 8 * K + i < 2 ^ 31 by omega), hd]
    exact pk_le q i (fun z => absurd z (by omega)) (fun _ => ⟨pk_in (8 * K + i) 96 (by omega), pk_le L x (fun z => absurd z (by omega)) (fun _ => nm_r (nI_1 i) (hn () trivial))⟩)
theorem rc_b200 {J : Int32 → Int32 → Prop} {x1 x2 x3 z : Int32} {i A A' s : Nat} {v : Int} (hz : z.toInt = v) (hs : s < 2 ^ 31) (hv : v < 2 ^ 31) (hA : (A' : Int) = A + (v + 1 - s).toNat) (H : J (nI A') (nI (i + 1))) : wX_below_200 P J x1 x2 x3 (nI A) (nI i) (nI s) z f0 a1 a2 a3 a4 a5 a6 a7 := by
  unfold wX_below_200
  refine ek_if (rc_lt_toInt hs) (fun hc => ?_) (fun hc => ?_)
  · rw [hz] at hc
    refine nm_r (e' := nI A') ?_ (nm_r (nI_1 i) H)
    rw [← nI_0, nI_add, show A + 0 = A' by omega]
  · rw [hz] at hc
    obtain ⟨k, rfl⟩ : ∃ k : Nat, v = k := ⟨v.toNat, by omega⟩
    have ez : z = nI k := rc_toInt_nI (by omega) hz
    refine nm_r (e' := nI A') ?_ (nm_r (nI_1 i) H)
    rw [ez, pk_sub (by omega), nI_1, nI_add, show A + (k - s + 1) = A' by omega]
theorem rc_below140 {s e : Nat → Nat} (hK : K < 12) (hL : L < 128) (hq : a3 K = nI q) (hq4 : q ≤ 4) (hs : rc_seg b 128 q (fun j => a4 (8 * K + j)) s e) (H : P (nI (rc_ct b L))) : ∃ n, wX_below_140 P (nI K) (nI L) (nI (8 * K)) f0 a1 a2 a3 a4 a5 a6 a7 n 0 0 := by
  have ek : (nI K).toNatClampNeg = K := nI_clamp (by omega)
  have t : ∃ n, wX_below_140 P (nI K) (nI L) (nI (8 * K)) f0 a1 a2 a3 a4 a5 a6 a7 n (nI (rc_ct b (min L (s 0)))) (nI 0) := by
    refine pk_loop (σ := Unit) (fun n i _ => wX_below_140 P (nI K) (nI L) (nI (8 * K)) f0 a1 a2 a3 a4 a5 a6 a7 n (nI (rc_ct b (min L (s i)))) (nI i)) (fun _ _ => True) q 0 () (by omega) trivial ?_ ?_
    · intro n _ _
      rw [hs.1, show min L 128 = L by omega]
      refine ⟨pk_in K 12 hK, ?_⟩
      rw [ek, hq]
      exact pk_le q q (fun _ => H) (fun z => absurd z (by omega))
    · intro n i _ hi _ hn
      have hn' := hn () trivial
      obtain ⟨g1, g2, g3, g4, g5, g6⟩ := hs.2.2 i hi
      have g7 := rc_seg_le hs (q - (i + 1)) (i + 1) (by omega)
      have g8 := rc_seg_min (L := L) hs hi
      have g3' : a4 (8 * K + 2 * i) = nI (s i) := g3
      have g4' : a4 (8 * K + 2 * i + 1) = nI (e i) := g4
      refine ⟨pk_in K 12 hK, ?_⟩
      rw [ek, hq, rc_j821, rc_j82, nI_clamp (show 8 * K + 2 * i < 2 ^ 31 by omega), nI_clamp (show 8 * K + 2 * i + 1 < 2 ^ 31 by omega), g3', g4']
      refine pk_le q i (fun z => absurd z (by omega)) (fun _ => ⟨pk_in (8 * K + 2 * i) 96 (by omega), nm_e ⟨pk_in (8 * K + 2 * i + 1) 96 (by omega), ?_⟩⟩)
      refine pk_le L (e i) (fun z => ?_) (fun z => ⟨pk_in (8 * K + 2 * i + 1) 96 (by omega), ?_⟩)
      · exact rc_b200 (v := (L : Int) - 1) (by rw [show (1 : Int32) = nI 1 from rfl, pk_sub_toInt (by omega) (by omega)]; rfl) (by omega) (by omega) (by rw [g8]; omega) hn'
      · exact rc_b200 (v := (e i : Int)) (nI_toInt (by omega)) (by omega) (by omega) (by rw [g8]; omega) hn'
  rw [rc_ct_0 (b := b) (n := min L (s 0)) (fun x hx => hs.2.1 x (by omega))] at t
  exact t
theorem rc_below (hK : K < 12) (h : rc_ch b (a1 K) (a2 K) (a3 K) (fun j => a4 (8 * K + j))) (hL : L ≤ 128) (H : P (nI (rc_ct b L))) : wpX_below P (f0, a1, a2, a3, a4, a5, a6, a7) (nI K) (nI L) := by
  have ek : (nI K).toNatClampNeg = K := nI_clamp (by omega)
  unfold wpX_below
  dsimp only
  rw [ek, rc_8]
  refine nm_e (pk_lt L 128 (fun z => ⟨pk_in K 12 hK, ?_⟩) (fun z => ⟨pk_in K 12 hK, ?_⟩))
  · rcases h.2 with ⟨hf, q, hp, hl⟩ | ⟨hf, hw⟩ | ⟨hf, q, hp, hq, s, e, hs⟩
    · exact br_f (by rw [hf]; decide) ⟨pk_in K 12 hK, br_t hf (rc_below107 hK z hp hl H)⟩
    · exact br_t hf (rc_below35 hK z hw H)
    · exact br_f (by rw [hf]; decide) ⟨pk_in K 12 hK, br_f (by rw [hf]; decide) (rc_below140 hK z hp hq hs H)⟩
  · rw [h.1]
    rw [show L = 128 by omega] at H
    exact H
theorem rc_sel40 {s e : Nat → Nat} (hK : K < 12) (hq : a3 K = nI q) (hq4 : q ≤ 4) (hs : rc_seg b 128 q (fun j => a4 (8 * K + j)) s e) (hr : r < rc_ct b 128) (H : ∀ x, x < 128 → b x = true → rc_ct b x = r → P (nI x)) : ∀ k i, i + k = q → rc_ct b (s i) ≤ r → wX_selectIn_40 P (nI K) (nI (8 * K)) f0 a1 a2 a3 a4 a5 a6 a7 (k + 1) (nI (r - rc_ct b (s i))) (nI i) := by
  have ek : (nI K).toNatClampNeg = K := nI_clamp (by omega)
  have l128 := rc_ct_le b 128
  intro k
  induction k with
  | zero =>
    intro i hi hc
    rw [show i = q by omega, hs.1] at hc
    exact absurd hc (by omega)
  | succ k ih =>
    intro i hi hc
    obtain ⟨g1, g2, g3, g4, g5, g6⟩ := hs.2.2 i (by omega)
    have g7 := rc_seg_le hs k (i + 1) (by omega)
    have g8 := rc_seg_ct hs (show i < q by omega)
    have g3' : a4 (8 * K + 2 * i) = nI (s i) := g3
    have g4' : a4 (8 * K + 2 * i + 1) = nI (e i) := g4
    refine ⟨pk_in K 12 hK, ?_⟩
    rw [ek, hq, rc_j821, rc_j82, nI_clamp (show 8 * K + 2 * i < 2 ^ 31 by omega), nI_clamp (show 8 * K + 2 * i + 1 < 2 ^ 31 by omega), g3', g4', pk_sub g1, nI_1]
    refine pk_le q i (fun z => absurd z (by omega)) (fun _ => ⟨pk_in (8 * K + 2 * i + 1) 96 (by omega), pk_in (8 * K + 2 * i) 96 (by omega), nm_e ?_⟩)
    refine pk_le (e i - s i + 1) (r - rc_ct b (s i)) (fun z => ?_) (fun z => ⟨pk_in (8 * K + 2 * i) 96 (by omega), ?_⟩)
    · refine nm_r (e' := nI (r - rc_ct b (s (i + 1)))) ?_ (nm_r (nI_1 i) (ih (i + 1) (by omega) (by omega)))
      rw [pk_sub z]
      apply congrArg nI
      omega
    · rw [nI_add]
      refine H _ (by omega) (g5 _ (by omega) (by omega)) ?_
      rw [rc_full (b := b) (m := s i) (n := s i + (r - rc_ct b (s i))) (by omega) (fun x h1 h2 => g5 x h1 (by omega))]
      omega
theorem rc_sel120 (hK : K < 12) (hw : rc_wd (fun j => a4 (8 * K + j)) 128 b) (hr : r < rc_ct b 128) (H : ∀ x, x < 128 → b x = true → rc_ct b x = r → P (nI x)) : ∀ k x, x + k = 128 → rc_ct b x ≤ r → wX_selectIn_120 P (nI (8 * K)) f0 a1 a2 a3 a4 a5 a6 a7 (k + 1) (nI (r - rc_ct b x)) (nI x) := by
  have l128 := rc_ct_le b 128
  intro k
  induction k with
  | zero =>
    intro x hx hc
    rw [show x = 128 by omega] at hc
    exact absurd hc (by omega)
  | succ k ih =>
    intro x hx hc
    have ei : nI (8 * K) + (nI x >>> ((5 : Int32) &&& 31)) = nI (8 * K + x / 32) := by rw [rc_s5 (by omega), nI_add]
    refine pk_le 128 x (fun z => absurd z (by omega)) (fun _ => ?_)
    rw [ei, rc_m31 x (by omega), nI_clamp (show 8 * K + x / 32 < 2 ^ 31 by omega)]
    refine ⟨pk_in (8 * K + x / 32) 96 (by omega), ek_if (rc_ask1 (a4 (8 * K + x / 32)) (x % 32) (by omega)) ?_ ?_⟩
    · intro h
      have hb : b x = true := by rw [← hw x (by omega)]; exact h
      refine pk_eq (r - rc_ct b x) 0 (fun z => H x (by omega) hb (by omega)) (fun z => nm_r (e' := nI (r - rc_ct b (x + 1))) ?_ (nm_r (nI_1 x) (ih (x + 1) (by omega) ?_)))
      · rw [rc_ct_t hb, sb_m1 (by omega)]
        apply congrArg nI
        omega
      · rw [rc_ct_t hb]
        omega
    · intro h
      have hb : b x = false := by
        cases hx' : b x with
        | false => rfl
        | true =>
          rw [← hw x (by omega)] at hx'
          exact absurd hx' h
      have t := ih (x + 1) (by omega) (by rw [rc_ct_f hb]; exact hc)
      rw [rc_ct_f hb] at t
      exact nm_r (nI_1 x) t
theorem rc_selectIn (hK : K < 12) (h : rc_ch b (a1 K) (a2 K) (a3 K) (fun j => a4 (8 * K + j))) (hr : r < rc_ct b 128) (H : ∀ x, x < 128 → b x = true → rc_ct b x = r → P (nI x)) : wpX_selectIn P (f0, a1, a2, a3, a4, a5, a6, a7) (nI K) (nI r) := by
  have ek : (nI K).toNatClampNeg = K := nI_clamp (by omega)
  unfold wpX_selectIn
  dsimp only
  rw [ek, rc_8]
  refine nm_e ⟨pk_in K 12 hK, ?_⟩
  rcases h.2 with ⟨hf, q, hp, hq1, hq2, hq3⟩ | ⟨hf, hw⟩ | ⟨hf, q, hp, hq, s, e, hs⟩
  · obtain ⟨x, hx, hbx, hcx⟩ := rc_ex hr
    have hd : a4 (8 * K + r) = nI x := by
      have t := hq3 x hx hbx
      rw [hcx] at t
      exact t
    refine br_t hf ⟨pk_in (8 * K + r) 96 (by omega) (nI_add _ _), ?_⟩
    rw [nI_add, nI_clamp (show 8 * K + r < 2 ^ 31 by omega), hd]
    exact H x hx hbx hcx
  · refine br_f (by rw [hf]; decide) ⟨pk_in K 12 hK, br_f (by rw [hf]; decide) ⟨129, ?_⟩⟩
    have t := rc_sel120 (f0 := f0) (a1 := a1) (a2 := a2) (a3 := a3) (a5 := a5) (a6 := a6) (a7 := a7) hK hw hr H 128 0 (by omega) (Nat.zero_le _)
    exact t
  · refine br_f (by rw [hf]; decide) ⟨pk_in K 12 hK, br_t hf ⟨q + 1, ?_⟩⟩
    have e0 : rc_ct b (s 0) = 0 := rc_ct_0 hs.2.1
    have t := rc_sel40 (f0 := f0) (a1 := a1) (a2 := a2) (a5 := a5) (a6 := a6) (a7 := a7) hK hp hq hs hr H q 0 (by omega) (by omega)
    rw [e0] at t
    exact t
theorem rc_nextIn (hK : K < 12) (h : rc_ch b (a1 K) (a2 K) (a3 K) (fun j => a4 (8 * K + j))) (hL : L ≤ 128) (H0 : rc_ct b L = rc_ct b 128 → P (-1)) (H : ∀ x, x < 128 → b x = true → rc_ct b x = rc_ct b L → P (nI x)) : wpX_nextIn P (f0, a1, a2, a3, a4, a5, a6, a7) (nI K) (nI L) := by
  have ek : (nI K).toNatClampNeg = K := nI_clamp (by omega)
  have l1 := rc_ct_le b 128
  have l2 := rc_ct_mono b hL
  unfold wpX_nextIn
  dsimp only
  refine rc_below hK h hL ⟨pk_in K 12 hK, ?_⟩
  rw [ek, h.1]
  exact pk_le (rc_ct b 128) (rc_ct b L) (fun z => H0 (by omega)) (fun z => rc_selectIn hK h z H)
end
/-! ===== the public questions ===== -/
section
variable {P : Int32 → Prop} {f0 : Int32} {a1 a2 a3 a4 a5 a6 a7 : Nat → Int32} {n r t : Nat} {B : Nat → Bool}
theorem rc_size (h : rc_ok B a1 a2 a3 a4) (H : P (nI (rc_ct B 512))) : wpX_size P (f0, a1, a2, a3, a4, a5, a6, a7) 1 := by
  unfold wpX_size
  dsimp only
  exact rc_isSet (br_f (by decide) (rc_total h H))
theorem rc_has (h : rc_ok B a1 a2 a3 a4) (hn : n < 512) (H : P (nI (B n).toNat)) : wpX_has P (f0, a1, a2, a3, a4, a5, a6, a7) 1 (nI n) := by
  unfold wpX_has
  dsimp only
  refine rc_isSet (br_f (by decide) (rc_isNum hn (br_f (by decide) ?_)))
  rw [rc_s7 (n := n) (by omega), rc_41, rc_m127 (by omega)]
  have en : 128 * (n / 128) + n % 128 = n := by omega
  refine rc_nextIn (by omega) (h (n / 128) (by omega)) (by omega) (fun hc => ?_) (fun x hx hb hc => ?_)
  · have hB : B n = false := by
      cases hb : B n with
      | false => rfl
      | true =>
        have l := rc_lt (b := fun x => B (128 * (n / 128) + x)) (x := n % 128) (n := 128) (by omega) (by rw [en]; exact hb)
        exact absurd hc (by omega)
    rw [hB] at H
    refine br_f ?_ H
    intro z
    have z2 := congrArg Int32.toInt z
    rw [nI_toInt (by omega)] at z2
    have z3 : (-1 : Int32).toInt = -1 := by decide
    omega
  · refine pk_eq x (n % 128) (fun e => ?_) (fun e => ?_)
    · have hB : B n = true := by
        rw [← en, ← e]
        exact hb
      rw [hB] at H
      exact H
    · have hB : B n = false := by
        cases hb' : B n with
        | false => rfl
        | true =>
          rw [← en] at hb'
          exact absurd (rc_inj (b := fun x => B (128 * (n / 128) + x)) hb hb' hc) e
      rw [hB] at H
      exact H
theorem rc_rank73 {J : Int32 → Int32 → Prop} {x2 : Int32} {c l A A' : Nat} (h : rc_ok B a1 a2 a3 a4) (hc : c < 4) (hl : l ≤ 128) (hA : A' = A + rc_ct (fun x => B (128 * c + x)) l) (H : J (nI A') (nI (c + 1))) : wX_rank_73 P J 1 x2 (nI A) (nI c) (nI l) f0 a1 a2 a3 a4 a5 a6 a7 := by
  unfold wX_rank_73
  rw [rc_41]
  refine rc_below (by omega) (h c hc) hl (nm_r (e' := nI A') ?_ (nm_r (nI_1 c) H))
  rw [nI_add, hA]
theorem rc_rank (h : rc_ok B a1 a2 a3 a4) (hn : n ≤ 512) (H : P (nI (rc_ct B n))) : wpX_rank P (f0, a1, a2, a3, a4, a5, a6, a7) 1 (nI n) := by
  unfold wpX_rank
  dsimp only
  refine rc_isSet (br_f (by decide) ?_)
  have t : ∃ m, wX_rank_14 P 1 (nI n) f0 a1 a2 a3 a4 a5 a6 a7 m (nI (rc_ct B (min n (128 * 0)))) (nI 0) := by
    refine pk_loop (σ := Unit) (fun m c _ => wX_rank_14 P 1 (nI n) f0 a1 a2 a3 a4 a5 a6 a7 m (nI (rc_ct B (min n (128 * c)))) (nI c)) (fun _ _ => True) 4 0 () (by omega) trivial ?_ ?_
    · intro m _ _
      rw [show min n (128 * 4) = n by omega]
      exact pk_le 4 4 (fun _ => H) (fun z => absurd z (by omega))
    · intro m c _ hc _ hn
      have hn' := hn () trivial
      have E : ∀ l, l ≤ 128 → min n (128 * (c + 1)) = min n (128 * c) + l → (l ≠ 0 → 128 * c ≤ n) → rc_ct B (min n (128 * (c + 1))) = rc_ct B (min n (128 * c)) + rc_ct (fun x => B (128 * c + x)) l := by
        intro l hl e1 e2
        rw [e1, rc_ct_add]
        congr 1
        by_cases z : l = 0
        · rw [z]; rfl
        · rw [show min n (128 * c) = 128 * c by have := e2 z; omega]
      refine pk_le 4 c (fun z => absurd z (by omega)) (fun _ => pk_lt (128 * c) n (fun z => ?_) (fun z => ?_) (rc_128 c))
      · unfold wX_rank_37
        refine pk_le n (128 * c) (fun z2 => absurd z2 (by omega)) (fun _ => ?_) rfl (rc_128 c)
        refine pk_le (128 * c + 128) n (fun z2 => ?_) (fun z2 => ?_) (rc_128' c)
        · exact rc_rank73 (l := 128) h hc (by omega) (E 128 (by omega) (by omega) (by omega)) hn'
        · exact nm_r (e' := nI (n - 128 * c)) (by rw [rc_128, pk_sub (by omega)]) (rc_rank73 h hc (by omega) (E (n - 128 * c) (by omega) (by omega) (by omega)) hn')
      · unfold wX_rank_37
        refine pk_le n (128 * c) (fun z2 => ?_) (fun z2 => absurd z2 (by omega)) rfl (rc_128 c)
        exact rc_rank73 (l := 0) h hc (by omega) (E 0 (by omega) (by omega) (by omega)) hn'
  rw [show min n (128 * 0) = 0 by omega] at t
  exact t
theorem rc_sel14 (h : rc_ok B a1 a2 a3 a4) (hr : r < rc_ct B 512) (H : ∀ x, x < 512 → B x = true → rc_ct B x = r → P (nI x)) : ∀ k c, c + k = 4 → rc_ct B (128 * c) ≤ r → wX_select_14 P 1 f0 a1 a2 a3 a4 a5 a6 a7 (k + 1) (nI (r - rc_ct B (128 * c))) (nI c) := by
  have l512 := rc_ct_le B 512
  intro k
  induction k with
  | zero =>
    intro c hc hr2
    rw [show 128 * c = 512 by omega] at hr2
    exact absurd hr2 (by omega)
  | succ k ih =>
    intro c hc hr2
    have lc := rc_ct_le (fun x => B (128 * c + x)) 128
    have ec := rc_ctc B c
    refine pk_le 4 c (fun z => absurd z (by omega)) (fun _ => ⟨pk_in (4 + c) 12 (by omega) (rc_41 c), nm_r (e' := nI (rc_ct (fun x => B (128 * c + x)) 128)) (by rw [rc_41, nI_clamp (by omega), (h c (by omega)).1]) (br_f (nI_pos (by omega)) ?_)⟩)
    refine pk_le (rc_ct (fun x => B (128 * c + x)) 128) (r - rc_ct B (128 * c)) (fun z => ?_) (fun z => ?_)
    · refine nm_r (e' := nI (r - rc_ct B (128 * (c + 1)))) ?_ (nm_r (nI_1 c) (ih (c + 1) (by omega) (by omega)))
      rw [pk_sub z]
      apply congrArg nI
      omega
    · rw [rc_41]
      refine rc_selectIn (by omega) (h c (by omega)) z (fun x hx hb hcx => ?_)
      rw [rc_128, nI_add]
      refine H _ (by omega) hb ?_
      rw [rc_ct_add, hcx]
      omega
theorem rc_select (h : rc_ok B a1 a2 a3 a4) (hr : r < rc_ct B 512) (H : ∀ x, x < 512 → B x = true → rc_ct B x = r → P (nI x)) : wpX_select P (f0, a1, a2, a3, a4, a5, a6, a7) 1 (nI r) := by
  unfold wpX_select
  dsimp only
  refine rc_isSet (br_f (by decide) ⟨5, ?_⟩)
  have t := rc_sel14 (f0 := f0) (a5 := a5) (a6 := a6) (a7 := a7) h hr H 4 0 (by omega) (Nat.zero_le _)
  exact t
theorem rc_previous (h : rc_ok B a1 a2 a3 a4) (ht : t < 511) (H0 : rc_ct B (t + 1) = 0 → P (-2)) (H : ∀ x, x < 512 → B x = true → rc_ct B x + 1 = rc_ct B (t + 1) → P (nI x)) : wpX_previous P (f0, a1, a2, a3, a4, a5, a6, a7) 1 (nI t) := by
  have lm := rc_ct_mono B (show t + 1 ≤ 512 by omega)
  have l512 := rc_ct_le B 512
  unfold wpX_previous
  dsimp only
  refine rc_isSet (br_f (by decide) (br_t (nI_lt (b := 511) ht (by omega)) ?_))
  unfold wX_previous_25
  refine br_f (nI_pos (by omega)) (br_f (nI_ge (b := 511) ht (by omega)) ?_)
  rw [nI_1]
  refine rc_rank h (by omega) ?_
  unfold wX_previous_46
  refine pk_eq (rc_ct B (t + 1)) 0 (fun z => H0 z) (fun z => ?_)
  rw [show nI (rc_ct B (t + 1)) - 1 = nI (rc_ct B (t + 1) - 1) from by rw [show (1 : Int32) = nI 1 from rfl, pk_sub (by omega)]]
  exact rc_select h (by omega) (fun x hx hb hc => H x hx hb (by omega))
theorem rc_next49 {J : Int32 → Prop} {x2 : Int32} {c l : Nat} (h : rc_ok B a1 a2 a3 a4) (hc : c < 4) (hl : l ≤ 128) (hB : ∀ x, l ≤ x → x < 128 → B (128 * c + x) = false) (H : J (nI (c + 1))) : wX_next_49 P J 1 x2 (nI c) (nI l) f0 a1 a2 a3 a4 a5 a6 a7 := by
  unfold wX_next_49
  rw [rc_41]
  refine rc_nextIn (by omega) (h c hc) hl (fun _ => br_t (by decide) (nm_r (nI_1 c) H)) (fun x hx hb hcx => ?_)
  have e := rc_flat (b := fun x => B (128 * c + x)) hl hB
  have l := rc_lt (b := fun x => B (128 * c + x)) hx hb
  exact absurd hcx (by omega)
theorem rc_next {x : Int32} {v : Int} (h : rc_ok B a1 a2 a3 a4) (hx : x.toInt = v) (hv : -1 ≤ v) (hv2 : v < 2 ^ 20) (hB : ∀ y : Nat, v ≤ y → y < 512 → B y = false) (H : P (-2)) : wpX_next P (f0, a1, a2, a3, a4, a5, a6, a7) 1 x := by
  unfold wpX_next
  dsimp only
  refine rc_isSet (br_f (by decide) ?_)
  refine pk_loop (σ := Unit) (fun m c _ => wX_next_11 P 1 x f0 a1 a2 a3 a4 a5 a6 a7 m (nI c)) (fun _ _ => True) 4 0 () (by omega) trivial ?_ ?_
  · intro m _ _
    exact pk_le 4 4 (fun _ => H) (fun z => absurd z (by omega))
  · intro m c _ hc _ hn
    have hn' := hn () trivial
    have c1 : ((128 : Int32) * nI c + 128 ≤ x) ↔ ((128 * c + 128 : Nat) : Int) ≤ v := by rw [rc_128', Int32.le_iff_toInt_le, nI_toInt (by omega), hx]
    have c2 : (x ≤ (128 : Int32) * nI c) ↔ v ≤ ((128 * c : Nat) : Int) := by rw [rc_128, Int32.le_iff_toInt_le, nI_toInt (by omega), hx]
    refine pk_le 4 c (fun z => absurd z (by omega)) (fun _ => ek_if c1 (fun z => nm_r (nI_1 c) hn') (fun z => ek_if c2 (fun z2 => ?_) (fun z2 => ?_)))
    · exact rc_next49 (l := 0) h hc (by omega) (fun y h1 h2 => hB _ (by omega) (by omega)) hn'
    · obtain ⟨k, rfl⟩ : ∃ k : Nat, v = k := ⟨v.toNat, by omega⟩
      have ex : x = nI k := rc_toInt_nI (by omega) hx
      rw [rc_128, show x - nI (128 * c) = nI (k - 128 * c) from by rw [ex, pk_sub (by omega)]]
      exact rc_next49 h hc (by omega) (fun y h1 h2 => hB _ (by omega) (by omega)) hn'
theorem rc_runs {Q : Int32 → St2 → Prop} (h : rc_ok B a1 a2 a3 a4) (H : ∀ u v, Q (nI (rc_ct (rc_st B) 512)) (f0, a1, a2, a3, a4, u, v, a7)) : wpX_runs Q (f0, a1, a2, a3, a4, a5, a6, a7) 1 := by
  unfold wpX_runs
  dsimp only
  refine rc_isSet (br_f (by decide) (rc_gather h (fun u v hv => ?_)))
  show ∃ m, wX_runs_21 Q f0 a1 a2 a3 a4 u v a7 m 0 0 0
  refine pk_loop (fun m w s => wX_runs_21 Q f0 a1 a2 a3 a4 u v a7 m (nI (rc_ct (rc_st B) (32 * w))) s (nI w)) (fun w s => rc_cy B w s) 16 0 0 (by omega) (rc_cy0 B) ?_ ?_
  · intro m s hs
    exact pk_le 16 16 (fun _ => H u v) (fun z => absurd z (by omega))
  · intro m w s hw hs hn
    have hn' := hn _ (rc_cys hv (show 32 * w + 31 < 512 by omega))
    rw [← rc_ctst hv (show 32 * w + 32 ≤ 512 by omega) hs, ← nI_add] at hn'
    refine pk_le 16 w (fun z => absurd z (by omega)) (fun _ => ⟨pk_in w 16 (by omega), pk_in w 16 (by omega), ?_⟩)
    rw [nI_clamp (show w < 2 ^ 31 by omega)]
    exact rc_pop _ (nm_e ⟨pk_in w 16 (by omega), nm_e (nm_r (nI_1 w) hn')⟩)
end
end
section
/-! ===== change: fill (0), clear (1), flip (2) a range ===== -/
def rc_op (h f t : Nat) (b : Nat → Bool) (x : Nat) : Bool := if f ≤ x ∧ x ≤ t then (if h = 0 then true else if h = 1 then false else !b x) else b x
theorem rc_op_out {h f t x : Nat} {b : Nat → Bool} (hx : ¬ (f ≤ x ∧ x ≤ t)) : rc_op h f t b x = b x := if_neg hx
theorem rc_op_or {f t x : Nat} {b : Nat → Bool} : rc_op 0 f t b x = (b x || decide (f ≤ x ∧ x ≤ t)) := by
  unfold rc_op
  by_cases c : f ≤ x ∧ x ≤ t
  · rw [if_pos c, if_pos rfl, decide_eq_true c, Bool.or_true]
  · rw [if_neg c, decide_eq_false c, Bool.or_false]
theorem rc_op_cl {f t x : Nat} {b : Nat → Bool} : rc_op 1 f t b x = (b x && !decide (f ≤ x ∧ x ≤ t)) := by
  unfold rc_op
  by_cases c : f ≤ x ∧ x ≤ t
  · rw [if_pos c, if_neg (by decide), if_pos rfl, decide_eq_true c, Bool.not_true, Bool.and_false]
  · rw [if_neg c, decide_eq_false c, Bool.not_false, Bool.and_true]
theorem rc_op_xor {f t x : Nat} {b : Nat → Bool} : rc_op 2 f t b x = (b x ^^ decide (f ≤ x ∧ x ≤ t)) := by
  unfold rc_op
  by_cases c : f ≤ x ∧ x ≤ t
  · rw [if_pos c, if_neg (by decide), if_neg (by decide), decide_eq_true c, Bool.xor_true]
  · rw [if_neg c, decide_eq_false c, Bool.xor_false]
theorem rc_ok_put {B B' b' : Nat → Bool} {a1 a2 a3 a4 p q r s : Nat → Int32} {c : Nat} (h : rc_ok B a1 a2 a3 a4) (hc : c < 4) (hch : rc_ch b' (p (4 + c)) (q (4 + c)) (r (4 + c)) (fun j => s (8 * (4 + c) + j))) (k1 : rc_fk (4 + c) p a1) (k2 : rc_fk (4 + c) q a2) (k3 : rc_fk (4 + c) r a3) (k4 : rc_fr (4 + c) s a4) (hb : ∀ x, x < 128 → b' x = B' (128 * c + x)) (ho : ∀ y, y < 512 → y / 128 ≠ c → B y = B' y) : rc_ok B' p q r s := by
  intro d hd
  by_cases e : d = c
  · subst e
    exact rc_ch_congr hch hb (fun _ _ => rfl)
  · rw [k1 (4 + d) (by omega), k2 (4 + d) (by omega), k3 (4 + d) (by omega)]
    exact rc_ch_congr (h d hd) (fun x hx => ho (128 * d + x) (by omega) (by omega)) (fun j hj => k4 _ (by omega))
section
variable {post : St2 → Prop} {f0 : Int32} {a1 a2 a3 a4 a5 a6 a7 : Nat → Int32} {b B : Nat → Bool} {h c f t : Nat}
theorem rc_change87 {J : Int32 → Int32 → (Nat → Int32) → (Nat → Int32) → (Nat → Int32) → (Nat → Int32) → (Nat → Int32) → (Nat → Int32) → (Nat → Int32) → Prop} {x2 x3 : Int32} (hh : h < 3) (hc : c < 4) (hft : f ≤ t) (ht : t < 128) (h5 : rc_wd a5 128 b) (H : ∀ p q r s u, rc_ch (rc_op h f t b) (p (4 + c)) (q (4 + c)) (r (4 + c)) (fun j => s (8 * (4 + c) + j)) → rc_fk (4 + c) p a1 → rc_fk (4 + c) q a2 → rc_fk (4 + c) r a3 → rc_fr (4 + c) s a4 → J (nI (c + 1)) f0 p q r s u a6 a7) : ∃ n, wX_change_87 post J 1 x2 x3 (nI h) (nI c) (nI f) (nI t) f0 n (nI (f / 32)) a1 a2 a3 a4 a5 a6 a7 := by
  refine pk_loop (fun n w s => wX_change_87 post J 1 x2 x3 (nI h) (nI c) (nI f) (nI t) f0 n (nI w) a1 a2 a3 a4 s a6 a7) (fun w s => f / 32 ≤ w ∧ rc_wd s 128 (fun x => if x / 32 < w then rc_op h f t b x else b x)) (t / 32 + 1) (f / 32) a5 (by omega) ⟨Nat.le_refl _, ?_⟩ ?_ ?_
  · intro x hx
    rw [h5 x hx]
    dsimp only
    by_cases e : x / 32 < f / 32
    · rw [if_pos e, rc_op_out (by omega)]
    · rw [if_neg e]
  · intro n s hs
    refine pk_lt (t / 32) (t / 32 + 1) (fun _ => ?_) (fun z => absurd z (by omega)) (rc_s5 (by omega))
    rw [rc_41]
    refine rc_save (by omega) (rc_wd_congr (b' := rc_op h f t b) hs.2 ?_) (fun p q r v hch k1 k2 k3 k4 => nm_r (nI_1 c) (H p q r v s hch k1 k2 k3 k4))
    intro x hx
    by_cases e : x / 32 < t / 32 + 1
    · rw [if_pos e]
    · rw [if_neg e, rc_op_out (by omega)]
  · intro n w s hw hs hn
    obtain ⟨hfw, hs⟩ := hs
    refine pk_lt (t / 32) w (fun z => absurd z (by omega)) (fun z => ?_) (rc_s5 (by omega))
    refine rc_mask f t w (rc_msk (by omega) (by omega)) (rc_msk (by omega) (by omega)) (by omega) (by omega) (fun m hm => ?_)
    have G : ∀ v, (∀ i, i < 32 → 32 * w + i < 128 → rc_bt v i = rc_op h f t b (32 * w + i)) → wX_change_87 post J 1 x2 x3 (nI h) (nI c) (nI f) (nI t) f0 n (nI (w + 1)) a1 a2 a3 a4 (upd s w v) a6 a7 := by
      intro v hv
      refine hn _ ⟨by omega, rc_wd_put hs (fun i hi hi2 => ?_) (fun x hx hne => ?_)⟩
      · rw [hv i hi hi2, if_pos (by omega)]
      · by_cases e : x / 32 < w
        · rw [if_pos e, if_pos (by omega)]
        · rw [if_neg e, if_neg (by omega)]
    have A : ∀ i, i < 32 → 32 * w + i < 128 → rc_bt (s w) i = b (32 * w + i) := by
      intro i hi hi2
      rw [rc_wd_at hs hi hi2, if_neg (by omega)]
    have ew : (nI w).toNatClampNeg = w := nI_clamp (by omega)
    rw [ew]
    refine pk_eq h 0 (fun e => ⟨pk_in w 8 (by omega), pk_in w 8 (by omega), nm_e (nm_r (nI_1 w) (G _ (fun i hi hi2 => ?_)))⟩) (fun e => pk_eq h 1 (fun e1 => ⟨pk_in w 8 (by omega), pk_in w 8 (by omega), nm_e (nm_r (nI_1 w) (G _ (fun i hi hi2 => ?_)))⟩) (fun e1 => ⟨pk_in w 8 (by omega), pk_in w 8 (by omega), nm_e (nm_r (nI_1 w) (G _ (fun i hi hi2 => ?_)))⟩))
    · rw [e, rc_op_or, rc_bor, A i hi hi2, hm i hi]
    · rw [e1, rc_op_cl, rc_band, rc_bnot _ hi, A i hi hi2, hm i hi]
    · rw [show h = 2 by omega, rc_op_xor, rc_bxor, A i hi hi2, hm i hi]
theorem rc_change68 {J : Int32 → Int32 → (Nat → Int32) → (Nat → Int32) → (Nat → Int32) → (Nat → Int32) → (Nat → Int32) → (Nat → Int32) → (Nat → Int32) → Prop} {x2 x3 : Int32} (hh : h < 3) (hc : c < 4) (hft : f ≤ t) (ht : t < 128) (hch : rc_ch b (a1 (4 + c)) (a2 (4 + c)) (a3 (4 + c)) (fun j => a4 (8 * (4 + c) + j))) (H : ∀ p q r s u, rc_ch (rc_op h f t b) (p (4 + c)) (q (4 + c)) (r (4 + c)) (fun j => s (8 * (4 + c) + j)) → rc_fk (4 + c) p a1 → rc_fk (4 + c) q a2 → rc_fk (4 + c) r a3 → rc_fr (4 + c) s a4 → J (nI (c + 1)) f0 p q r s u a6 a7) : wX_change_68 post J 1 x2 x3 (nI h) (nI c) (nI f) (nI t) f0 a1 a2 a3 a4 a5 a6 a7 := by
  unfold wX_change_68
  rw [rc_41]
  exact rc_load (by omega) hch (fun a ha => nm_r (rc_s5 (by omega)) (rc_change87 hh hc hft ht ha H))
theorem rc_change {F T : Nat} (hh : h < 3) (hFT : F ≤ T) (hT : T < 512) (ho : rc_ok B a1 a2 a3 a4) (H : ∀ p q r s u, rc_ok (rc_op h F T B) p q r s → post (f0, p, q, r, s, u, a6, a7)) : wpX_change post (f0, a1, a2, a3, a4, a5, a6, a7) 1 (nI F) (nI T) (nI h) := by
  unfold wpX_change
  dsimp only
  refine nm_r (rc_s7 (by omega)) ?_
  refine pk_loop (σ := (Nat → Int32) × (Nat → Int32) × (Nat → Int32) × (Nat → Int32) × (Nat → Int32)) (fun n c s => wX_change_6 post 1 (nI F) (nI T) (nI h) n (nI c) f0 s.1 s.2.1 s.2.2.1 s.2.2.2.1 s.2.2.2.2 a6 a7) (fun c s => F / 128 ≤ c ∧ rc_ok (fun y => if y / 128 < c then rc_op h F T B y else B y) s.1 s.2.1 s.2.2.1 s.2.2.2.1) (T / 128 + 1) (F / 128) (a1, a2, a3, a4, a5) (by omega) ⟨Nat.le_refl _, ?_⟩ ?_ ?_
  · refine rc_ok_congr ho (fun x hx => ?_)
    by_cases e : x / 128 < F / 128
    · rw [if_pos e, rc_op_out (by omega)]
    · rw [if_neg e]
  · intro n s hs
    refine pk_lt (T / 128) (T / 128 + 1) (fun _ => H s.1 s.2.1 s.2.2.1 s.2.2.2.1 s.2.2.2.2 (rc_ok_congr hs.2 ?_)) (fun z => absurd z (by omega)) (rc_s7 (by omega))
    intro x hx
    by_cases e : x / 128 < T / 128 + 1
    · rw [if_pos e]
    · rw [if_neg e, rc_op_out (by omega)]
  · intro n c s hc hs hn
    obtain ⟨hFc, hs⟩ := hs
    have G : ∀ f t, f = F - 128 * c → t = min (T - 128 * c) 127 → wX_change_68 post (wX_change_6 post 1 (nI F) (nI T) (nI h) n) 1 (nI F) (nI T) (nI h) (nI c) (nI f) (nI t) f0 s.1 s.2.1 s.2.2.1 s.2.2.2.1 s.2.2.2.2 a6 a7 := by
      intro f t ef et
      refine rc_change68 hh (by omega) (by omega) (by omega) (hs c (by omega)) (fun p q r v u hch k1 k2 k3 k4 => hn (p, q, r, v, u) ⟨by omega, ?_⟩)
      refine rc_ok_put hs (by omega) hch k1 k2 k3 k4 (fun x hx => ?_) (fun y hy hne => ?_)
      · have e1 : ¬ (128 * c + x) / 128 < c := by omega
        have e2 : (128 * c + x) / 128 < c + 1 := by omega
        rw [if_pos e2]
        unfold rc_op
        dsimp only
        rw [if_neg e1]
        by_cases e3 : f ≤ x ∧ x ≤ t
        · rw [if_pos e3, if_pos (show F ≤ 128 * c + x ∧ 128 * c + x ≤ T by omega)]
        · rw [if_neg e3, if_neg (show ¬ (F ≤ 128 * c + x ∧ 128 * c + x ≤ T) by omega)]
      · by_cases e : y / 128 < c
        · rw [if_pos e, if_pos (by omega)]
        · rw [if_neg e, if_neg (by omega)]
    have e127 : (128 : Int32) * nI c + 128 - 1 = nI (128 * c + 127) := by
      rw [rc_128', show 128 * c + 128 = (128 * c + 127) + 1 by omega, nI_pred]
    have D : ∀ f, f = F - 128 * c → wX_change_37 post (wX_change_6 post 1 (nI F) (nI T) (nI h) n) 1 (nI F) (nI T) (nI h) (nI c) (nI f) f0 s.1 s.2.1 s.2.2.1 s.2.2.2.1 s.2.2.2.2 a6 a7 := by
      intro f ef
      unfold wX_change_37
      refine pk_le (128 * c + 127) T (fun z => G f 127 ef (by omega)) (fun z => ?_) e127
      rw [rc_128, pk_sub (show 128 * c ≤ T by omega)]
      exact G f (T - 128 * c) ef (by omega)
    refine pk_lt (T / 128) c (fun z => absurd z (by omega)) (fun z => ?_) (rc_s7 (by omega))
    refine pk_le F (128 * c) (fun z2 => D 0 (by omega)) (fun z2 => ?_) rfl (rc_128 c)
    rw [rc_128, pk_sub (show 128 * c ≤ F by omega)]
    exact D (F - 128 * c) rfl
end
section
variable {Q : Int32 → St2 → Prop} {f0 : Int32} {a1 a2 a3 a4 a5 a6 a7 : Nat → Int32} {B : Nat → Bool} {F T : Nat}
theorem rc_fill (hFT : F ≤ T) (hT : T < 512) (ho : rc_ok B a1 a2 a3 a4) (H : ∀ p q r s u, rc_ok (rc_op 0 F T B) p q r s → Q (nI (rc_ct (rc_op 0 F T B) 512) - nI (rc_ct B 512)) (f0, p, q, r, s, u, a6, a7)) : wpX_fill Q (f0, a1, a2, a3, a4, a5, a6, a7) 1 (nI F) (nI T) := by
  unfold wpX_fill
  dsimp only
  refine rc_isSet (br_f (by decide) (rc_isRange hFT hT (br_f (by decide) (rc_total ho ?_))))
  exact rc_change (h := 0) (by omega) hFT hT ho (fun p q r s u hk => rc_total hk (H p q r s u hk))
theorem rc_clear (hFT : F ≤ T) (hT : T < 512) (ho : rc_ok B a1 a2 a3 a4) (H : ∀ p q r s u, rc_ok (rc_op 1 F T B) p q r s → Q (nI (rc_ct B 512) - nI (rc_ct (rc_op 1 F T B) 512)) (f0, p, q, r, s, u, a6, a7)) : wpX_clear Q (f0, a1, a2, a3, a4, a5, a6, a7) 1 (nI F) (nI T) := by
  unfold wpX_clear
  dsimp only
  refine rc_isSet (br_f (by decide) (rc_isRange hFT hT (br_f (by decide) (rc_total ho ?_))))
  exact rc_change (h := 1) (by omega) hFT hT ho (fun p q r s u hk => rc_total hk (H p q r s u hk))
theorem rc_flip (hFT : F ≤ T) (hT : T < 512) (ho : rc_ok B a1 a2 a3 a4) (H : ∀ p q r s u, rc_ok (rc_op 2 F T B) p q r s → Q (nI (rc_ct (rc_op 2 F T B) 512)) (f0, p, q, r, s, u, a6, a7)) : wpX_flip Q (f0, a1, a2, a3, a4, a5, a6, a7) 1 (nI F) (nI T) := by
  unfold wpX_flip
  dsimp only
  refine rc_isSet (br_f (by decide) (rc_isRange hFT hT (br_f (by decide) ?_)))
  exact rc_change (h := 2) (by omega) hFT hT ho (fun p q r s u hk => rc_total hk (H p q r s u hk))
theorem rc_remove (hF : F < 512) (ho : rc_ok B a1 a2 a3 a4) (H : ∀ p q r s u, rc_ok (rc_op 1 F F B) p q r s → Q (nI (rc_ct B 512) - nI (rc_ct (rc_op 1 F F B) 512)) (f0, p, q, r, s, u, a6, a7)) : wpX_remove Q (f0, a1, a2, a3, a4, a5, a6, a7) 1 (nI F) := by
  unfold wpX_remove
  dsimp only
  exact rc_isSet (br_f (by decide) (rc_isNum hF (br_f (by decide) (rc_clear (Nat.le_refl F) hF ho H))))
end
end
section
/-! ===== Int64 by its bits ===== -/
def rc_lb (w : Int64) (i : Nat) : Bool := w.toBitVec.getLsbD i
theorem rc_lor (x y : Int64) (i : Nat) : rc_lb (x ||| y) i = (rc_lb x i || rc_lb y i) := by unfold rc_lb; rw [Int64.toBitVec_or, BitVec.getLsbD_or]
theorem rc_land (x y : Int64) (i : Nat) : rc_lb (x &&& y) i = (rc_lb x i && rc_lb y i) := by unfold rc_lb; rw [Int64.toBitVec_and, BitVec.getLsbD_and]
theorem rc_lxor (x y : Int64) (i : Nat) : rc_lb (x ^^^ y) i = (rc_lb x i ^^ rc_lb y i) := by unfold rc_lb; rw [Int64.toBitVec_xor, BitVec.getLsbD_xor]
theorem rc_lbig {x : Int64} {i : Nat} (h : 64 ≤ i) : rc_lb x i = false := BitVec.getLsbD_of_ge _ _ h
theorem rc_lm1 : ∀ i, i < 64 → rc_lb (-1) i = true := by decide +kernel
theorem rc_l0 (i : Nat) : rc_lb 0 i = false := BitVec.getLsbD_zero
theorem rc_lnot (x : Int64) {i : Nat} (hi : i < 64) : rc_lb (x ^^^ (-1)) i = !rc_lb x i := by rw [rc_lxor, rc_lm1 i hi, Bool.xor_true]
theorem rc_lsl : ∀ k, k < 64 → (((nI k).toInt64 &&& 63).toBitVec.smod 64).toNat = k := by decide +kernel
theorem rc_lsu : ∀ k, k < 64 → (((nI k).toInt64.toUInt64 &&& Int64.toUInt64 63).toBitVec % 64).toNat = k := by decide +kernel
theorem rc_lone : ∀ k, k < 64 → ∀ i, i < 64 → rc_lb ((1 : Int64) <<< ((nI k).toInt64 &&& 63)) i = decide (k ≤ i ∧ i ≤ k) := by decide +kernel
theorem rc_lshl (k : Nat) (hk : k < 64) (x : Int64) {i : Nat} (hi : i < 64) : rc_lb (x <<< ((nI k).toInt64 &&& 63)) i = (decide (k ≤ i) && rc_lb x (i - k)) := by
  unfold rc_lb
  rw [Int64.toBitVec_shiftLeft]
  show (x.toBitVec <<< (((nI k).toInt64 &&& 63).toBitVec.smod 64).toNat).getLsbD i = _
  rw [rc_lsl k hk, BitVec.getLsbD_shiftLeft]
  rcases Nat.lt_or_ge i k with h | h
  · simp [h, Nat.not_le.mpr h]
  · simp [hi, h, Nat.not_lt.mpr h]
theorem rc_lushr (k : Nat) (hk : k < 64) (x : Int64) (i : Nat) : rc_lb ((x.toUInt64 >>> ((nI k).toInt64.toUInt64 &&& Int64.toUInt64 63)).toInt64) i = rc_lb x (k + i) := by
  show (x.toUInt64 >>> ((nI k).toInt64.toUInt64 &&& Int64.toUInt64 63)).toBitVec.getLsbD i = x.toUInt64.toBitVec.getLsbD (k + i)
  rw [UInt64.toBitVec_shiftRight]
  show (x.toUInt64.toBitVec >>> (((nI k).toInt64.toUInt64 &&& Int64.toUInt64 63).toBitVec % 64).toNat).getLsbD i = _
  rw [rc_lsu k hk, BitVec.getLsbD_ushiftRight]
/-- one bit asked of a long -/
theorem rc_lask (x : Int64) (k : Nat) (hk : k < 64) : (x >>> ((nI k).toInt64 &&& 63)).toInt32 &&& 1 = nI (rc_lb x k).toNat := by
  have e : rc_bt (x >>> ((nI k).toInt64 &&& 63)).toInt32 0 = rc_lb x k := by
    unfold rc_bt rc_lb
    rw [Int64.toBitVec_toInt32, Int64.toBitVec_shiftRight]
    show ((x.toBitVec.sshiftRight (((nI k).toInt64 &&& 63).toBitVec.smod 64).toNat).signExtend 32).getLsbD 0 = _
    rw [rc_lsl k hk, BitVec.getLsbD_signExtend, BitVec.getLsbD_sshiftRight]
    simp [hk]
  apply rc_ext
  intro i hi
  rw [rc_band, rc_b1 i hi]
  by_cases z : i = 0
  · subst z
    rw [e]
    cases rc_lb x k with
    | true => rfl
    | false => rfl
  · rw [decide_eq_false z, Bool.and_false]
    cases rc_lb x k with
    | true =>
      show false = rc_bt 1 i
      rw [rc_b1 i hi, decide_eq_false z]
    | false =>
      show false = rc_bt 0 i
      rw [rc_b0]
theorem rc_8b (i j : Nat) : (8 : Int32) * nI i + nI j = nI (8 * i + j) := rc_i8 i j
/-! ===== the law's own small methods ===== -/
theorem rc_ones {P : Int32 → Prop} (w : Int64) (H : P (nI (rc_ct (rc_lb w) 64))) : wpL_ones P () w := by
  show ∃ n, wL_ones_4 P w n 0 0
  refine pk_loop (σ := Unit) (fun n i _ => wL_ones_4 P w n (nI (rc_ct (rc_lb w) (8 * i))) (nI i)) (fun _ _ => True) 8 0 () (by omega) trivial ?_ ?_
  · intro n _ _
    exact pk_le 8 8 (fun _ => H) (fun z => absurd z (by omega))
  · intro n i _ hi _ hn
    have hn' := hn () trivial
    refine pk_le 8 i (fun z => absurd z (by omega)) (fun _ => ?_)
    refine pk_loop (σ := Unit) (fun m j _ => wL_ones_13 P (wL_ones_4 P w n) w (nI i) m (nI (rc_ct (rc_lb w) (8 * i + j))) (nI j)) (fun _ _ => True) 8 0 () (by omega) trivial ?_ ?_
    · intro m _ _
      exact pk_le 8 8 (fun _ => nm_r (nI_1 i) hn') (fun z => absurd z (by omega))
    · intro m j _ hj _ hm
      refine pk_le 8 j (fun z => absurd z (by omega)) (fun _ => nm_r (e' := nI (rc_ct (rc_lb w) (8 * i + (j + 1)))) ?_ (nm_r (nI_1 j) (hm () trivial)))
      rw [rc_i8, rc_lask w (8 * i + j) (by omega), nI_add]
      rfl
theorem rc_range {P : Int64 → Prop} {f l : Nat} (hf : f ≤ l) (hl : l ≤ 63) (H : ∀ m, (∀ i, i < 64 → rc_lb m i = decide (f ≤ i ∧ i ≤ l)) → P m) : wpL_range P () (nI f) (nI l) := by
  unfold wpL_range
  have e : (63 : Int32) - nI l + nI f = nI (63 - l + f) := by rw [show (63 : Int32) = nI 63 from rfl, pk_sub hl, nI_add]
  rw [e]
  refine H _ (fun i hi => ?_)
  rw [rc_lshl f (by omega) _ hi, rc_lushr (63 - l + f) (by omega)]
  by_cases c : f ≤ i
  · by_cases c2 : i ≤ l
    · rw [rc_lm1 _ (by omega), decide_eq_true c, decide_eq_true (show f ≤ i ∧ i ≤ l from ⟨c, c2⟩)]
      rfl
    · rw [rc_lbig (by omega), decide_eq_false (show ¬ (f ≤ i ∧ i ≤ l) from fun z => c2 z.2), Bool.and_false]
  · rw [decide_eq_false c, decide_eq_false (show ¬ (f ≤ i ∧ i ≤ l) from fun z => c z.1), Bool.false_and]
theorem rc_part {P : Int32 → Prop} {p q r x : Int32} (H : ∀ X, X < 32768 → P (nI X)) : wpL_part P () p q r x := by
  have G : ∀ z : Int32, wL_part_19 P x z := by
    intro z
    unfold wL_part_19
    obtain ⟨j, hj, e⟩ := pk_andE (z >>> ((15 * (x &&& 1)) &&& 31)) (m := 32767) 15 (by decide)
    rw [e]
    exact H j hj
  exact br_c (fun _ => br_c (fun _ => G r) (fun _ => G q)) (fun _ => G p)
/-! ===== the window: F .. F + 63 of the set holds the long ===== -/
def rc_B (F : Nat) (w : Int64) (y : Nat) : Bool := decide (F ≤ y) && rc_lb w (y - F)
theorem rc_B_lo {F y : Nat} {w : Int64} (h : y < F) : rc_B F w y = false := by
  unfold rc_B
  rw [decide_eq_false (by omega), Bool.false_and]
theorem rc_B_at (F : Nat) (w : Int64) (i : Nat) : rc_B F w (F + i) = rc_lb w i := by
  unfold rc_B
  rw [decide_eq_true (by omega), Bool.true_and, Nat.add_sub_cancel_left]
theorem rc_B_hi {F y : Nat} {w : Int64} (h : F + 64 ≤ y) : rc_B F w y = false := by
  unfold rc_B
  rw [rc_lbig (by omega), Bool.and_false]
theorem rc_B_ct (F : Nat) (w : Int64) (i : Nat) : rc_ct (rc_B F w) (F + i) = rc_ct (rc_lb w) i := by
  rw [rc_ct_add, rc_ct_0 (fun y hy => rc_B_lo hy), Nat.zero_add]
  exact rc_ct_congr (fun j _ => rc_B_at F w j)
theorem rc_B_all {F : Nat} (w : Int64) (hF : F < 448) : rc_ct (rc_B F w) 512 = rc_ct (rc_lb w) 64 := by
  rw [rc_flat (b := rc_B F w) (m := F + 64) (n := 512) (by omega) (fun y h1 _ => rc_B_hi h1), rc_B_ct]
theorem rc_B_st (F : Nat) (w : Int64) (i : Nat) : rc_st (rc_B F w) (F + i) = rc_st (rc_lb w) i := by
  unfold rc_st
  rw [rc_B_at]
  by_cases e : i = 0
  · subst e
    by_cases z : F = 0
    · subst z
      rfl
    · rw [rc_B_lo (show F + 0 - 1 < F by omega), Bool.and_false]
      rfl
  · rw [show F + i - 1 = F + (i - 1) by omega, rc_B_at, decide_eq_true (show 0 < F + i by omega), decide_eq_true (show 0 < i by omega)]
theorem rc_B_runs {F : Nat} (w : Int64) (hF : F < 448) : rc_ct (rc_st (rc_B F w)) 512 = rc_ct (rc_st (rc_lb w)) 64 := by
  rw [rc_flat (b := rc_st (rc_B F w)) (m := F + 64) (n := 512) (by omega) (fun y h1 _ => rc_st_0 (rc_B_hi h1)), rc_ct_add, rc_ct_0 (fun y hy => rc_st_0 (rc_B_lo hy)), Nat.zero_add]
  exact rc_ct_congr (fun j _ => rc_B_st F w j)
/-- an op on the range is the op on the long -/
theorem rc_B_op {h F f l : Nat} {w w' : Int64} (hl : l ≤ 63) (e : ∀ i, i < 64 → rc_op h f l (rc_lb w) i = rc_lb w' i) (y : Nat) : rc_op h (F + f) (F + l) (rc_B F w) y = rc_B F w' y := by
  by_cases c : y < F
  · rw [rc_op_out (by omega), rc_B_lo c, rc_B_lo c]
  · obtain ⟨i, rfl⟩ : ∃ i, y = F + i := ⟨y - F, by omega⟩
    by_cases c2 : i < 64
    · rw [rc_B_at, ← e i c2]
      unfold rc_op
      rw [rc_B_at]
      by_cases c3 : f ≤ i ∧ i ≤ l
      · rw [if_pos c3, if_pos (by omega)]
      · rw [if_neg c3, if_neg (by omega)]
    · rw [rc_op_out (by omega), rc_B_hi (by omega), rc_B_hi (by omega)]
/-! ===== the last place below n, or -2 ===== -/
def rc_last (b : Nat → Bool) : Nat → Int32
  | 0 => -2
  | n + 1 => if b n = true then nI n else rc_last b n
theorem rc_last_t {b : Nat → Bool} {n : Nat} (h : b n = true) : rc_last b (n + 1) = nI n := if_pos h
theorem rc_last_f {b : Nat → Bool} {n : Nat} (h : b n = false) : rc_last b (n + 1) = rc_last b n := if_neg (by rw [h]; decide)
theorem rc_last_is (b : Nat → Bool) (n : Nat) : (rc_last b n = -2 ∧ ∀ i, i < n → b i = false) ∨ ∃ k, k < n ∧ rc_last b n = nI k ∧ b k = true ∧ ∀ i, k < i → i < n → b i = false := by
  induction n with
  | zero => exact Or.inl ⟨rfl, fun i hi => absurd hi (by omega)⟩
  | succ n ih =>
    cases hb : b n with
    | true => exact Or.inr ⟨n, by omega, rc_last_t hb, hb, fun i h1 h2 => absurd h1 (by omega)⟩
    | false =>
      rw [rc_last_f hb]
      rcases ih with ⟨h1, h2⟩ | ⟨k, h1, h2, h3, h4⟩
      · refine Or.inl ⟨h1, fun i hi => ?_⟩
        by_cases e : i = n
        · rw [e, hb]
        · exact h2 i (by omega)
      · refine Or.inr ⟨k, by omega, h2, h3, fun i hi hi2 => ?_⟩
        by_cases e : i = n
        · rw [e, hb]
        · exact h4 i hi (by omega)
theorem rc_last_st {b : Nat → Bool} {x : Nat} (hx : x < 64) (hb : b x = true) : (rc_last b x = nI x - 1 ∧ rc_st b x = false) ∨ (rc_last b x ≠ nI x - 1 ∧ rc_st b x = true) := by
  by_cases c : x = 0 ∨ b (x - 1) = false
  · refine Or.inr ⟨fun z => ?_, rc_st_1 hb c⟩
    have z2 := congrArg Int32.toInt z
    rw [show (1 : Int32) = nI 1 from rfl, pk_sub_toInt (by omega) (by omega)] at z2
    rcases rc_last_is b x with ⟨h1, _⟩ | ⟨k, h1, h2, h3, _⟩
    · rw [h1, show (-2 : Int32).toInt = -2 from by decide] at z2
      omega
    · rw [h2, nI_toInt (by omega)] at z2
      rcases c with c | c
      · omega
      · rw [show x - 1 = k by omega, h3] at c
        exact absurd c (by decide)
  · have c1 : x ≠ 0 := fun z => c (Or.inl z)
    have c2 : b (x - 1) = true := by
      cases hq : b (x - 1) with
      | true => rfl
      | false => exact absurd (Or.inr hq) c
    refine Or.inl ⟨?_, rc_st_2 (by omega) c2⟩
    obtain ⟨y, rfl⟩ : ∃ y, x = y + 1 := ⟨x - 1, by omega⟩
    rw [nI_pred]
    exact rc_last_t c2
end
section
/-! ===== the law's loops ===== -/
section
variable {post : Int32 → St0 → Prop} {mc ms kc ks : Nat} {f0 : Int32} {a1 a2 a3 a4 a5 a6 a7 : Nat → Int32} {F : Nat} {w : Int64}
theorem rc_law76 {J : Int64 → Int32 → Int32 → (Nat → Int32) → (Nat → Int32) → (Nat → Int32) → (Nat → Int32) → (Nat → Int32) → (Nat → Int32) → (Nat → Int32) → Prop} {x0 x1 x2 : Int32} {X f l i : Nat} (hF : F < 448) (hf : f ≤ l) (hl : l ≤ 63) (hX : X < 32768) (h : rc_ok (rc_B F w) a1 a2 a3 a4) (H : ∀ w' p q r s u, rc_ok (rc_B F w') p q r s → J w' (nI (i + 1)) f0 p q r s u a6 a7) : wL_lawOf_76 post mc ms J x0 x1 x2 (nI F) w (nI i) (nI X) (nI f) (nI l) kc ks f0 a1 a2 a3 a4 a5 a6 a7 := by
  unfold wL_lawOf_76
  have C := fun v => rc_B_all (F := F) v hF
  have L64 := fun v : Int64 => rc_ct_le (rc_lb v) 64
  refine rc_range hf hl (fun m hm => ?_)
  have e7 : nI X &&& 7 = nI (X % 8) := pk_andN (by omega) 3 (by decide)
  refine nm_r e7 ?_
  refine rc_ones _ (rc_ones _ ?_)
  rw [nI_add, nI_add]
  refine pk_le 3 (X % 8) (fun _ => pk_le 5 (X % 8) (fun _ => pk_le 7 (X % 8) (fun _ => ?_) (fun _ => ?_)) (fun _ => ?_)) (fun _ => ?_)
  · -- remove
    refine nm_r (rc_lask w f (by omega)) ?_
    have eo : ∀ i, i < 64 → rc_op 1 f f (rc_lb w) i = rc_lb (w &&& (((1 : Int64) <<< ((nI f).toInt64 &&& 63)) ^^^ (-1))) i := by
      intro i hi
      rw [rc_op_cl, rc_land, rc_lnot _ hi, rc_lone f (by omega) i hi]
    refine rc_remove (by omega) h (fun p q r s u hk => ?_)
    rw [rc_ct_congr (n := 512) (fun y _ => rc_B_op (F := F) (by omega) eo y), C, C]
    have hk' := rc_ok_congr hk (fun y _ => rc_B_op (F := F) (by omega) eo y)
    have ec : rc_ct (rc_lb (w &&& (((1 : Int64) <<< ((nI f).toInt64 &&& 63)) ^^^ (-1)))) 64 + (rc_lb w f).toNat = rc_ct (rc_lb w) 64 := by
      have e1 : rc_ct (fun i => rc_lb w i && decide (f ≤ i ∧ i ≤ f)) 64 = (rc_lb w f).toNat := by
        rw [rc_flat (m := f + 1) (n := 64) (by omega) (fun i h1 h2 => by rw [decide_eq_false (by omega), Bool.and_false]), rc_ct_s, rc_ct_0 (fun i hi => by rw [decide_eq_false (by omega), Bool.and_false]), decide_eq_true (show f ≤ f ∧ f ≤ f by omega), Bool.and_true, Nat.zero_add]
      rw [← e1]
      apply rc_ct_sum
      intro i hi
      rw [← eo i hi, rc_op_cl]
      cases rc_lb w i <;> cases decide (f ≤ i ∧ i ≤ f) <;> rfl
    refine br_t ?_ (nm_e (nm_r (nI_1 i) (H _ p q r s u hk')))
    rw [pk_sub (by omega)]
    apply congrArg nI
    omega
  · -- flip
    have eo : ∀ i, i < 64 → rc_op 2 f l (rc_lb w) i = rc_lb (w ^^^ m) i := by
      intro i hi
      rw [rc_op_xor, rc_lxor, hm i hi]
    refine nm_e (rc_flip (by omega) (by omega) h (fun p q r s u hk => ?_))
    rw [rc_ct_congr (n := 512) (fun y _ => rc_B_op (F := F) (by omega) eo y), C]
    have hk' := rc_ok_congr hk (fun y _ => rc_B_op (F := F) (by omega) eo y)
    exact rc_ones _ (br_t rfl (nm_r (nI_1 i) (H _ p q r s u hk')))
  · -- clear
    have eo : ∀ i, i < 64 → rc_op 1 f l (rc_lb w) i = rc_lb (w &&& (m ^^^ (-1))) i := by
      intro i hi
      rw [rc_op_cl, rc_land, rc_lnot _ hi, hm i hi]
    refine rc_clear (by omega) (by omega) h (fun p q r s u hk => ?_)
    rw [rc_ct_congr (n := 512) (fun y _ => rc_B_op (F := F) (by omega) eo y), C, C]
    have hk' := rc_ok_congr hk (fun y _ => rc_B_op (F := F) (by omega) eo y)
    have ec : rc_ct (rc_lb (w &&& (m ^^^ (-1)))) 64 + rc_ct (rc_lb (m &&& w)) 64 = rc_ct (rc_lb w) 64 := by
      apply rc_ct_sum
      intro i hi
      rw [rc_land, rc_land, rc_lnot _ hi]
      cases rc_lb w i <;> cases rc_lb m i <;> rfl
    refine br_t ?_ (nm_e (nm_r (nI_1 i) (H _ p q r s u hk')))
    rw [pk_sub (by omega)]
    apply congrArg nI
    omega
  · -- fill
    have eo : ∀ i, i < 64 → rc_op 0 f l (rc_lb w) i = rc_lb (w ||| m) i := by
      intro i hi
      rw [rc_op_or, rc_lor, hm i hi]
    refine rc_fill (by omega) (by omega) h (fun p q r s u hk => ?_)
    rw [rc_ct_congr (n := 512) (fun y _ => rc_B_op (F := F) (by omega) eo y), C, C]
    have hk' := rc_ok_congr hk (fun y _ => rc_B_op (F := F) (by omega) eo y)
    have ec : rc_ct (rc_lb w) 64 + rc_ct (rc_lb (m &&& (w ^^^ (-1)))) 64 = rc_ct (rc_lb (w ||| m)) 64 := by
      apply rc_ct_sum
      intro i hi
      rw [rc_land, rc_lor, rc_lnot _ hi]
      cases rc_lb w i <;> cases rc_lb m i <;> rfl
    refine br_t ?_ (nm_e (nm_r (nI_1 i) (H _ p q r s u hk')))
    rw [pk_sub (by omega)]
    apply congrArg nI
    omega
theorem rc_law421 {J J' : Int32 → Int32 → Int32 → Int32 → Prop} {x9 x11 : Int32} {x j : Nat} (hF : F < 448) (hx : x < 64) (h : rc_ok (rc_B F w) a1 a2 a3 a4) (H : J (nI (rc_ct (rc_lb w) (x + 1))) x9 (rc_last (rc_lb w) (x + 1)) (nI (j + 1))) : wL_lawOf_421 post mc ms J' J (nI F) w (nI (rc_ct (rc_lb w) x)) x9 (rc_last (rc_lb w) (x + 1)) x11 (nI j) (nI x) (nI (rc_lb w x).toNat) kc ks f0 a1 a2 a3 a4 a5 a6 a7 := by
  have G : ∀ z, wL_lawOf_447 post mc ms J' J (nI F) w (nI (rc_ct (rc_lb w) x)) x9 (rc_last (rc_lb w) (x + 1)) x11 (nI j) (nI (rc_lb w x).toNat) z z kc ks f0 a1 a2 a3 a4 a5 a6 a7 := by
    intro z
    unfold wL_lawOf_447
    exact br_t rfl (nm_r (nI_add _ _) (nm_r (nI_1 j) H))
  unfold wL_lawOf_421
  rw [nI_add]
  have e1 : rc_ct (rc_B F w) (F + x + 1) = rc_ct (rc_lb w) (x + 1) := by rw [Nat.add_assoc, rc_B_ct]
  refine rc_previous h (by omega) (fun hz => ?_) (fun y hy hb hc => ?_)
  · rw [e1] at hz
    rcases rc_last_is (rc_lb w) (x + 1) with ⟨h1, h2⟩ | ⟨k, h1, h2, h3, h4⟩
    · rw [h1] at G ⊢
      exact br_f (by decide) (G _)
    · have l := rc_lt h1 h3
      exact absurd hz (by omega)
  · rw [e1] at hc
    rcases rc_last_is (rc_lb w) (x + 1) with ⟨h1, h2⟩ | ⟨k, h1, h2, h3, h4⟩
    · rw [rc_ct_0 h2] at hc
      exact absurd hc (by omega)
    · have e2 : rc_ct (rc_lb w) (x + 1) = rc_ct (rc_lb w) k + 1 := by
        rw [rc_flat (b := rc_lb w) (m := k + 1) (n := x + 1) (by omega) (fun i h5 h6 => h4 i (by omega) h6), rc_ct_t h3]
      have e3 : y = F + k := by
        refine rc_inj hb (by rw [rc_B_at]; exact h3) ?_
        rw [rc_B_ct]
        omega
      rw [h2] at G ⊢
      refine br_t (nI_pos' (by omega)) ?_
      rw [nI_add, e3]
      exact G _
theorem rc_law308 {J : Int32 → Int32 → Int32 → Int32 → Prop} {i : Nat} (hF : F < 448) (hi : i < 8) (h : rc_ok (rc_B F w) a1 a2 a3 a4) (H : J (nI (rc_ct (rc_lb w) (8 * (i + 1)))) (nI (rc_ct (rc_st (rc_lb w)) (8 * (i + 1)))) (rc_last (rc_lb w) (8 * (i + 1))) (nI (i + 1))) : ∃ n, wL_lawOf_308 post mc ms J (nI F) w (nI i) kc ks f0 a1 a2 a3 a4 a5 a6 a7 n (nI (rc_ct (rc_lb w) (8 * i))) (nI (rc_ct (rc_st (rc_lb w)) (8 * i))) (rc_last (rc_lb w) (8 * i)) 0 := by
  refine pk_loop (σ := Unit) (fun n j _ => wL_lawOf_308 post mc ms J (nI F) w (nI i) kc ks f0 a1 a2 a3 a4 a5 a6 a7 n (nI (rc_ct (rc_lb w) (8 * i + j))) (nI (rc_ct (rc_st (rc_lb w)) (8 * i + j))) (rc_last (rc_lb w) (8 * i + j)) (nI j)) (fun _ _ => True) 8 0 () (by omega) trivial ?_ ?_
  · intro n _ _
    exact pk_le 8 8 (fun _ => nm_r (nI_1 i) H) (fun z => absurd z (by omega))
  · intro n j _ hj _ hn
    have hn' := hn () trivial
    rw [show 8 * i + (j + 1) = 8 * i + j + 1 by omega] at hn'
    refine pk_le 8 j (fun z => absurd z (by omega)) (fun _ => nm_r (rc_i8 i j) ?_)
    have hx : 8 * i + j < 64 := by omega
    generalize 8 * i + j = x at hx hn' ⊢
    refine nm_r (rc_lask w x hx) ?_
    rw [nI_add]
    have l64 := rc_ct_le (rc_lb w) 64
    have lm := rc_ct_mono (rc_lb w) (show x + 1 ≤ 64 by omega)
    refine rc_has h (by omega) ?_
    rw [rc_B_at]
    refine br_t rfl (rc_rank h (by omega) ?_)
    rw [rc_B_ct]
    refine br_t rfl ?_
    cases hb : rc_lb w x with
    | true =>
      refine br_t rfl (rc_select h (by rw [rc_B_all w hF]; exact rc_lt hx hb) (fun y hy hby hcy => ?_))
      have e3 : y = F + x := by
        refine rc_inj hby (by rw [rc_B_at]; exact hb) ?_
        rw [rc_B_ct]
        exact hcy
      refine br_t (by rw [e3]) ?_
      unfold wL_lawOf_393
      have T := rc_law421 (post := post) (mc := mc) (ms := ms) (kc := kc) (ks := ks) (f0 := f0) (a5 := a5) (a6 := a6) (a7 := a7) (J' := J) (x11 := nI i) hF hx h hn'
      rw [hb, rc_last_t hb] at T
      refine br_t rfl ?_
      rcases rc_last_st hx hb with ⟨g1, g2⟩ | ⟨g1, g2⟩
      · rw [rc_ct_f g2] at T
        refine br_t g1 ?_
        unfold wL_lawOf_411
        exact br_t rfl T
      · rw [rc_ct_t g2] at T
        refine br_f g1 (nm_r (nI_1 _) ?_)
        unfold wL_lawOf_411
        exact br_t rfl T
    | false =>
      have T := rc_law421 (post := post) (mc := mc) (ms := ms) (kc := kc) (ks := ks) (f0 := f0) (a5 := a5) (a6 := a6) (a7 := a7) (J' := J) (x11 := nI i) hF hx h hn'
      rw [hb, rc_last_f hb, rc_ct_f (rc_st_0 hb)] at T
      refine br_f (by decide) ?_
      unfold wL_lawOf_393
      refine br_f (by decide) ?_
      unfold wL_lawOf_411
      exact br_f (by decide) T
theorem rc_law298 (hF : F < 448) (h : rc_ok (rc_B F w) a1 a2 a3 a4) (H : post 1 ()) : ∃ n, wL_lawOf_298 post mc ms (nI F) w kc ks f0 a1 a2 a3 a4 a5 a6 a7 n 0 0 (-2) 0 := by
  refine pk_loop (σ := Unit) (fun n i _ => wL_lawOf_298 post mc ms (nI F) w kc ks f0 a1 a2 a3 a4 a5 a6 a7 n (nI (rc_ct (rc_lb w) (8 * i))) (nI (rc_ct (rc_st (rc_lb w)) (8 * i))) (rc_last (rc_lb w) (8 * i)) (nI i)) (fun _ _ => True) 8 0 () (by omega) trivial ?_ ?_
  · intro n _ _
    refine pk_le 8 8 (fun _ => ?_) (fun z => absurd z (by omega))
    refine rc_size h ?_
    rw [rc_B_all w hF]
    refine br_t rfl (rc_runs h (fun u v => ?_))
    rw [rc_B_runs w hF]
    refine br_t rfl ?_
    rcases rc_last_is (rc_lb w) (8 * 8) with ⟨h1, h2⟩ | ⟨k, h1, h2, h3, h4⟩
    · rw [h1]
      refine rc_next (v := (F : Int) - 1) h ?_ (by omega) (by omega) (fun y hy1 hy2 => ?_) (br_t rfl H)
      · rw [show nI F + (-2) + 1 = nI F - nI 1 from by rw [show (nI 1 : Int32) = 1 from rfl]; grind, pk_sub_toInt (by omega) (by omega)]
        rfl
      · by_cases c : y < F
        · exact rc_B_lo c
        · by_cases c2 : y < F + 64
          · rw [show y = F + (y - F) by omega, rc_B_at]
            exact h2 _ (by omega)
          · exact rc_B_hi (by omega)
    · rw [h2]
      refine rc_next (v := ((F + k + 1 : Nat) : Int)) h ?_ (by omega) (by omega) (fun y hy1 hy2 => ?_) (br_t rfl H)
      · rw [nI_add, nI_1, nI_toInt (by omega)]
      · by_cases c2 : y < F + 64
        · rw [show y = F + (y - F) by omega, rc_B_at]
          exact h4 _ (by omega) (by omega)
        · exact rc_B_hi (by omega)
  · intro n i _ hi _ hn
    refine pk_le 8 i (fun z => absurd z (by omega)) (fun _ => ?_)
    exact rc_law308 hF hi h (hn () trivial)
theorem rc_law26 {x0 x1 x2 : Int32} (hF : F < 448) (h : rc_ok (rc_B F w) a1 a2 a3 a4) (H : post 1 ()) : ∃ n, wL_lawOf_26 post mc ms x0 x1 x2 (nI F) kc ks n w 0 f0 a1 a2 a3 a4 a5 a6 a7 := by
  refine pk_loop (σ := Int64 × (Nat → Int32) × (Nat → Int32) × (Nat → Int32) × (Nat → Int32) × (Nat → Int32)) (fun n i s => wL_lawOf_26 post mc ms x0 x1 x2 (nI F) kc ks n s.1 (nI i) f0 s.2.1 s.2.2.1 s.2.2.2.1 s.2.2.2.2.1 s.2.2.2.2.2 a6 a7) (fun i s => rc_ok (rc_B F s.1) s.2.1 s.2.2.1 s.2.2.2.1 s.2.2.2.2.1) 6 0 (w, a1, a2, a3, a4, a5) (by omega) h ?_ ?_
  · intro n s hs
    exact pk_le 6 6 (fun _ => rc_law298 hF hs H) (fun z => absurd z (by omega))
  · intro n i s hi hs hn
    refine pk_le 6 i (fun z => absurd z (by omega)) (fun _ => rc_part (fun X hX => ?_))
    have e1 : nI X >>> ((3 : Int32) &&& 31) &&& 63 = nI (X / 8 % 64) := by
      rw [pk_shrN (by omega) _ 3 (by decide)]
      exact pk_andN (by omega) 6 (by decide)
    have e2 : nI X >>> ((9 : Int32) &&& 31) &&& 63 = nI (X / 512 % 64) := by
      rw [pk_shrN (by omega) _ 9 (by decide)]
      exact pk_andN (by omega) 6 (by decide)
    refine nm_r e1 ?_
    refine nm_r (e' := nI (X / 8 % 64 + X / 512 % 64)) (by rw [e2, nI_add]) ?_
    refine pk_le (X / 8 % 64 + X / 512 % 64) 63 (fun z => ?_) (fun z => ?_)
    · exact rc_law76 hF (by omega) z hX hs (fun w' p q r v u hk => hn (w', p, q, r, v, u) hk)
    · exact rc_law76 (l := 63) hF (by omega) (by omega) hX hs (fun w' p q r v u hk => hn (w', p, q, r, v, u) hk)
end
theorem rc_empty (F : Nat) : rc_ok (rc_B F 0) (fun _ => 0) (fun _ => 0) (fun _ => 0) (fun _ => 0) := by
  intro c hc
  have z : ∀ x, rc_B F 0 x = false := fun x => by
    unfold rc_B
    rw [rc_l0, Bool.and_false]
  have e : rc_ct (fun x => rc_B F 0 (128 * c + x)) 128 = 0 := rc_ct_0 (fun x _ => z _)
  refine ⟨by rw [e]; rfl, Or.inl ⟨rfl, 0, rfl, e.symm, by omega, fun x hx hb => ?_⟩⟩
  dsimp only at hb
  rw [z] at hb
  exact absurd hb (by decide)
theorem rc_lawOf {post : Int32 → St0 → Prop} {p q r x : Int32} (H : post 1 ()) : wpL_lawOf post 120 1920 () p q r x := by
  unfold wpL_lawOf
  refine ⟨by omega, by omega, 7, 200, by omega, by omega, ?_⟩
  unfold wpX_init
  refine ⟨by omega, by omega, by omega, by omega, by omega, by omega, by omega, by omega, by omega, by omega, by omega, by omega, by omega, by omega, ?_⟩
  obtain ⟨j, hj, e⟩ := pk_andE x (m := 511) 9 (by decide)
  refine ⟨by decide, ?_⟩
  rw [e]
  refine nm_r (e' := nI (j % 448)) ?_ (rc_law26 (by omega) (rc_empty _) H)
  exact pk_rem (a := j) (d := 448) (by omega) (by decide) (by decide)
theorem rc_cell {P : Int32 → Prop} {L p : Nat} {xs : Nat → Int32} {x : Int32} (hp : p < 4) (hx : x = nI p) (hL : L ≤ 4) (H : ∀ v, P v) : wpL_cellAt P L xs () x := by
  unfold wpL_cellAt
  exact pk_le L p (fun _ => H _) (fun z => ⟨pk_in p L z hx, H _⟩) rfl hx
end
section
theorem i_vc (xs : Nat → Int32) (L : Nat) (hL : L ≤ 4) : wpL_law (fun r => r = 1) L xs := by
  unfold wpL_law
  refine rc_cell (p := 0) (by omega) rfl hL (fun v1 => ?_)
  refine rc_cell (p := 1) (by omega) rfl hL (fun v2 => ?_)
  refine rc_cell (p := 2) (by omega) rfl hL (fun v3 => ?_)
  refine rc_cell (p := 3) (by omega) rfl hL (fun v4 => ?_)
  exact ⟨120, 1920, by omega, by omega, rc_lawOf rfl⟩
end
