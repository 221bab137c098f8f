section
/-! words by their bits (the family rb_ began as the first family of BITS.to-paste) -/
section
def rb_t (x : Int32) (i : Nat) : Bool := x.toBitVec.getLsbD i
theorem rb_ext {x y : Int32} (h : ∀ i, i < 32 → rb_t x i = rb_t y i) : x = y := Int32.toBitVec_inj.mp (BitVec.eq_of_getLsbD_eq (fun i hi => h i hi))
theorem rb_or (x y : Int32) (i : Nat) : rb_t (x ||| y) i = (rb_t x i || rb_t y i) := by unfold rb_t; rw [Int32.toBitVec_or, BitVec.getLsbD_or]
theorem rb_and (x y : Int32) (i : Nat) : rb_t (x &&& y) i = (rb_t x i && rb_t y i) := by unfold rb_t; rw [Int32.toBitVec_and, BitVec.getLsbD_and]
theorem rb_xor (x y : Int32) (i : Nat) : rb_t (x ^^^ y) i = (rb_t x i ^^ rb_t y i) := by unfold rb_t; rw [Int32.toBitVec_xor, BitVec.getLsbD_xor]
theorem rb_big {x : Int32} {i : Nat} (h : 32 ≤ i) : rb_t x i = false := BitVec.getLsbD_of_ge _ _ h
theorem rb_m1 : ∀ i, i < 32 → rb_t (-1) i = true := by decide +kernel
theorem rb_0 (i : Nat) : rb_t 0 i = false := BitVec.getLsbD_zero
theorem rb_one : ∀ i, i < 32 → rb_t 1 i = decide (i = 0) := by decide +kernel
theorem rb_sl : ∀ n, n < 32 → ((nI n &&& 31).toBitVec.smod 32).toNat = n := by decide +kernel
theorem rb_su : ∀ n, n < 32 → (((nI n).toUInt32 &&& Int32.toUInt32 31).toBitVec % 32).toNat = n := by decide +kernel
theorem rb_shl (n : Nat) (hn : n < 32) (x : Int32) {i : Nat} (hi : i < 32) : rb_t (x <<< (nI n &&& 31)) i = (decide (n ≤ i) && rb_t x (i - n)) := by
  unfold rb_t
  rw [Int32.toBitVec_shiftLeft]
  show (x.toBitVec <<< ((nI n &&& 31).toBitVec.smod 32).toNat).getLsbD i = _
  rw [rb_sl n hn, BitVec.getLsbD_shiftLeft]
  rcases Nat.lt_or_ge i n with h | h
  · simp [h, Nat.not_le.mpr h]
  · simp [hi, h, Nat.not_lt.mpr h]
theorem rb_ushr (n : Nat) (hn : n < 32) (x : Int32) (i : Nat) : rb_t ((x.toUInt32 >>> ((nI n).toUInt32 &&& Int32.toUInt32 31)).toInt32) i = rb_t x (n + i) := by
  show (x.toUInt32 >>> ((nI n).toUInt32 &&& Int32.toUInt32 31)).toBitVec.getLsbD i = x.toUInt32.toBitVec.getLsbD (n + i)
  rw [UInt32.toBitVec_shiftRight]
  show (x.toUInt32.toBitVec >>> (((nI n).toUInt32 &&& Int32.toUInt32 31).toBitVec % 32).toNat).getLsbD i = _
  rw [rb_su n hn, BitVec.getLsbD_ushiftRight]
theorem rb_not (x : Int32) {i : Nat} (hi : i < 32) : rb_t (x ^^^ (-1)) i = !rb_t x i := by
  rw [rb_xor, rb_m1 i hi]
  cases rb_t x i <;> rfl
theorem rb_hi : ∀ t, t < 31 → ∀ i, i < 32 → rb_t (((2 : Int32) <<< (nI t &&& 31)) - 1) i = decide (i ≤ t) := by decide +kernel
theorem rb_lo : ∀ t, t < 32 → ∀ i, i < 32 → rb_t (((1 : Int32) <<< (nI t &&& 31)) - 1) i = decide (i < t) := by decide +kernel
theorem rb_pt : ∀ t, t < 32 → ∀ i, i < 32 → rb_t ((1 : Int32) <<< (nI t &&& 31)) i = decide (i = t) := by decide +kernel
theorem rb_bit0 (y : Int32) : y &&& 1 = 1 ↔ rb_t y 0 = true := by
  constructor
  · intro h
    have e : rb_t (y &&& 1) 0 = rb_t 1 0 := by rw [h]
    rw [rb_and, rb_one 0 (by omega)] at e
    cases hy : rb_t y 0
    · rw [hy] at e
      exact absurd e (by decide)
    · rfl
  · intro h
    apply rb_ext
    intro i hi
    rw [rb_and, rb_one i hi]
    by_cases z : i = 0
    · rw [z, h]; rfl
    · simp [z]
theorem rb_test (w : Int32) (j : Nat) (hj : j < 32) : ((w.toUInt32 >>> ((nI j).toUInt32 &&& Int32.toUInt32 31)).toInt32 &&& 1) = 1 ↔ rb_t w j = true := by
  rw [rb_bit0, rb_ushr j hj, Nat.add_zero]
theorem rb_nI (n : Nat) {i : Nat} (hi : i < 32) : rb_t (nI n) i = n.testBit i := by
  show (BitVec.ofNat 32 n).getLsbD i = _
  rw [BitVec.getLsbD_ofNat]
  simp [hi]
end
/-! counting -/
section
def rc_n (f : Nat → Bool) : Nat → Nat
  | 0 => 0
  | n + 1 => rc_n f n + (if f n = true then 1 else 0)
theorem rc_n_s (f : Nat → Bool) (n : Nat) : rc_n f (n + 1) = rc_n f n + (if f n = true then 1 else 0) := rfl
theorem rc_n_ext {f g : Nat → Bool} (n : Nat) (h : ∀ i, i < n → f i = g i) : rc_n f n = rc_n g n := by
  induction n with
  | zero => rfl
  | succ n ih => rw [rc_n_s, rc_n_s, ih (fun i hi => h i (by omega)), h n (by omega)]
theorem rc_n_add (f : Nat → Bool) (m n : Nat) : rc_n f (m + n) = rc_n f m + rc_n (fun i => f (m + i)) n := by
  induction n with
  | zero => rfl
  | succ n ih => rw [← Nat.add_assoc, rc_n_s, ih, rc_n_s, Nat.add_assoc]
theorem rc_n_le (f : Nat → Bool) (n : Nat) : rc_n f n ≤ n := by
  induction n with
  | zero => exact Nat.le_refl 0
  | succ n ih =>
    rw [rc_n_s]
    split <;> omega
theorem rc_n_mono (f : Nat → Bool) {m n : Nat} (h : m ≤ n) : rc_n f m ≤ rc_n f n := by
  obtain ⟨d, rfl⟩ := Nat.exists_eq_add_of_le h
  rw [rc_n_add]
  omega
theorem rc_n_t {f : Nat → Bool} {n : Nat} (h : f n = true) : rc_n f (n + 1) = rc_n f n + 1 := by
  rw [rc_n_s, if_pos h]
theorem rc_n_f {f : Nat → Bool} {n : Nat} (h : f n = false) : rc_n f (n + 1) = rc_n f n := by
  rw [rc_n_s, h]
  rfl
/-- none -/
theorem rc_n_none (n : Nat) : rc_n (fun _ => false) n = 0 := by
  induction n with
  | zero => rfl
  | succ n ih => rw [rc_n_s, ih]; rfl
/-- an interval -/
theorem rc_n_iv (a b n : Nat) : rc_n (fun x => decide (a ≤ x ∧ x ≤ b)) n = min (b + 1) n - min a n := by
  induction n with
  | zero => show 0 = _; omega
  | succ n ih =>
    rw [rc_n_s, ih]
    by_cases h : a ≤ n ∧ n ≤ b
    · rw [if_pos (decide_eq_true h)]
      omega
    · rw [if_neg (by simpa using h)]
      omega
/-- one point more -/
theorem rc_n_pt (f : Nat → Bool) (p n : Nat) : rc_n (fun x => f x || decide (x = p)) n = rc_n f n + (if p < n ∧ f p = false then 1 else 0) := by
  induction n with
  | zero => simp [rc_n]
  | succ n ih =>
    rw [rc_n_s, rc_n_s, ih]
    by_cases e : n = p
    · subst e
      cases hf : f n <;> simp
    · have e2 : (f n || decide (n = p)) = f n := by simp [e]
      have e3 : (p < n + 1 ∧ f p = false) ↔ (p < n ∧ f p = false) := by
        constructor
        · intro h
          exact ⟨by omega, h.2⟩
        · intro h
          exact ⟨by omega, h.2⟩
      simp only [e2, e3]
      omega
end
/-! the population count -/
section
def rc_pb (b : Nat) : Nat := rc_n (fun i => b.testBit i) 8
def rc_c (b : Nat) : Nat := b - (b / 2 &&& 85)
def rc_d (b : Nat) : Nat := (rc_c b &&& 51) + (rc_c b / 4 &&& 51)
def rc_q (a b c d : Nat) : Nat := a + 256 * (b + 256 * (c + 256 * d))
theorem rc_byte : ∀ b, b < 256 → (b / 2 &&& 85) ≤ b ∧ rc_c b < 256 ∧ rc_d b % 16 ≤ 4 ∧ rc_d b / 16 ≤ 4 ∧ rc_d b % 16 + rc_d b / 16 = rc_pb b := by decide +kernel
theorem rc_sh1 : ∀ b, b < 256 → ∀ t, t < 2 → ((b / 2 + 128 * t) &&& 85) = (b / 2 &&& 85) := by decide +kernel
theorem rc_sh2 : ∀ b, b < 256 → ∀ t, t < 4 → ((b / 4 + 64 * t) &&& 51) = (b / 4 &&& 51) := by decide +kernel
theorem rc_land (a b c d : Nat) (ha : a < 256) (hc : c < 256) : (a + 256 * b) &&& (c + 256 * d) = (a &&& c) + 256 * (b &&& d) := by
  have e1 : ((a + 256 * b) &&& (c + 256 * d)) % 2 ^ 8 = ((a + 256 * b) % 2 ^ 8) &&& ((c + 256 * d) % 2 ^ 8) := Nat.and_mod_two_pow
  have e2 : ((a + 256 * b) &&& (c + 256 * d)) / 2 ^ 8 = ((a + 256 * b) / 2 ^ 8) &&& ((c + 256 * d) / 2 ^ 8) := Nat.and_div_two_pow
  rw [show (a + 256 * b) % 2 ^ 8 = a by omega, show (c + 256 * d) % 2 ^ 8 = c by omega] at e1
  rw [show (a + 256 * b) / 2 ^ 8 = b by omega, show (c + 256 * d) / 2 ^ 8 = d by omega] at e2
  omega
theorem rc_and4 {a b c d m : Nat} (ha : a < 256) (hb : b < 256) (hc : c < 256) (hm : m < 256) : rc_q a b c d &&& rc_q m m m m = rc_q (a &&& m) (b &&& m) (c &&& m) (d &&& m) := by
  unfold rc_q
  rw [rc_land _ _ _ _ ha hm, rc_land _ _ _ _ hb hm, rc_land _ _ _ _ hc hm]
theorem rc_split {n : Nat} (h : n < 4294967296) : ∃ a b c d, a < 256 ∧ b < 256 ∧ c < 256 ∧ d < 256 ∧ n = rc_q a b c d :=
  ⟨n % 256, n / 256 % 256, n / 65536 % 256, n / 16777216, by omega, by omega, by omega, by omega, by unfold rc_q; omega⟩
theorem rc_pbq {a b c d : Nat} (ha : a < 256) (hb : b < 256) (hc : c < 256) (hd : d < 256) : rc_n (fun i => (rc_q a b c d).testBit i) 32 = rc_pb a + rc_pb b + rc_pb c + rc_pb d := by
  have key : ∀ (n m k : Nat), n / 2 ^ k % 2 ^ 8 = m → rc_n (fun i => n.testBit (k + i)) 8 = rc_pb m := by
    intro n m k h
    unfold rc_pb
    apply rc_n_ext
    intro i hi
    show n.testBit (k + i) = m.testBit i
    rw [← h, Nat.testBit_mod_two_pow, Nat.testBit_div_two_pow, Nat.add_comm k i]
    simp [hi]
  have k0 := key (rc_q a b c d) a 0 (by unfold rc_q; omega)
  have k1 := key (rc_q a b c d) b 8 (by unfold rc_q; omega)
  have k2 := key (rc_q a b c d) c 16 (by unfold rc_q; omega)
  have k3 := key (rc_q a b c d) d 24 (by unfold rc_q; omega)
  have e3 := rc_n_add (fun i => (rc_q a b c d).testBit i) 24 8
  have e2 := rc_n_add (fun i => (rc_q a b c d).testBit i) 16 8
  have e1 := rc_n_add (fun i => (rc_q a b c d).testBit i) 8 8
  have e0 := rc_n_add (fun i => (rc_q a b c d).testBit i) 0 8
  have z : rc_n (fun i => (rc_q a b c d).testBit i) 0 = 0 := rfl
  have f3 : rc_n (fun i => (rc_q a b c d).testBit i) 32 = rc_n (fun i => (rc_q a b c d).testBit i) 24 + rc_pb d := by rw [← k3]; exact e3
  have f2 : rc_n (fun i => (rc_q a b c d).testBit i) 24 = rc_n (fun i => (rc_q a b c d).testBit i) 16 + rc_pb c := by rw [← k2]; exact e2
  have f1 : rc_n (fun i => (rc_q a b c d).testBit i) 16 = rc_n (fun i => (rc_q a b c d).testBit i) 8 + rc_pb b := by rw [← k1]; exact e1
  have f0 : rc_n (fun i => (rc_q a b c d).testBit i) 8 = rc_n (fun i => (rc_q a b c d).testBit i) 0 + rc_pb a := by rw [← k0]; exact e0
  omega
theorem rc_v1 {a b c d : Nat} (ha : a < 256) (hb : b < 256) (hc : c < 256) (hd : d < 256) : (rc_q a b c d / 2 &&& 1431655765) ≤ rc_q a b c d ∧ rc_q a b c d - (rc_q a b c d / 2 &&& 1431655765) = rc_q (rc_c a) (rc_c b) (rc_c c) (rc_c d) := by
  have e : rc_q a b c d / 2 = rc_q (a / 2 + 128 * (b % 2)) (b / 2 + 128 * (c % 2)) (c / 2 + 128 * (d % 2)) (d / 2 + 128 * 0) := by unfold rc_q; omega
  have e2 : (1431655765 : Nat) = rc_q 85 85 85 85 := by decide
  rw [e, e2, rc_and4 (by omega) (by omega) (by omega) (by omega), rc_sh1 a ha _ (by omega), rc_sh1 b hb _ (by omega), rc_sh1 c hc _ (by omega), rc_sh1 d hd _ (by omega)]
  have h1 := (rc_byte a ha).1
  have h2 := (rc_byte b hb).1
  have h3 := (rc_byte c hc).1
  have h4 := (rc_byte d hd).1
  unfold rc_c rc_q
  constructor <;> omega
theorem rc_v2 {a b c d : Nat} (ha : a < 256) (hb : b < 256) (hc : c < 256) (hd : d < 256) : (rc_q a b c d &&& 858993459) + (rc_q a b c d / 4 &&& 858993459) = rc_q ((a &&& 51) + (a / 4 &&& 51)) ((b &&& 51) + (b / 4 &&& 51)) ((c &&& 51) + (c / 4 &&& 51)) ((d &&& 51) + (d / 4 &&& 51)) := by
  have e : rc_q a b c d / 4 = rc_q (a / 4 + 64 * (b % 4)) (b / 4 + 64 * (c % 4)) (c / 4 + 64 * (d % 4)) (d / 4 + 64 * 0) := by unfold rc_q; omega
  have e2 : (858993459 : Nat) = rc_q 51 51 51 51 := by decide
  rw [e, e2, rc_and4 (by omega) (by omega) (by omega) (by omega), rc_and4 (by omega) (by omega) (by omega) (by omega), rc_sh2 a ha _ (by omega), rc_sh2 b hb _ (by omega), rc_sh2 c hc _ (by omega), rc_sh2 d hd _ (by omega)]
  unfold rc_q
  omega
theorem rc_v3 {a b c d : Nat} (ha : a % 16 ≤ 4 ∧ a / 16 ≤ 4) (hb : b % 16 ≤ 4 ∧ b / 16 ≤ 4) (hc : c % 16 ≤ 4 ∧ c / 16 ≤ 4) (hd : d % 16 ≤ 4 ∧ d / 16 ≤ 4) : (rc_q a b c d + rc_q a b c d / 16 &&& 252645135) = rc_q (a % 16 + a / 16) (b % 16 + b / 16) (c % 16 + c / 16) (d % 16 + d / 16) := by
  have e : rc_q a b c d + rc_q a b c d / 16 = rc_q (a + a / 16 + 16 * (b % 16)) (b + b / 16 + 16 * (c % 16)) (c + c / 16 + 16 * (d % 16)) (d + d / 16) := by unfold rc_q; omega
  have e2 : (252645135 : Nat) = rc_q 15 15 15 15 := by decide
  have m : ∀ v : Nat, v &&& 15 = v % 16 := fun v => Nat.and_two_pow_sub_one_eq_mod v 4
  rw [e, e2, rc_and4 (by omega) (by omega) (by omega) (by omega), m, m, m, m]
  rw [show (a + a / 16 + 16 * (b % 16)) % 16 = a % 16 + a / 16 by omega, show (b + b / 16 + 16 * (c % 16)) % 16 = b % 16 + b / 16 by omega, show (c + c / 16 + 16 * (d % 16)) % 16 = c % 16 + c / 16 by omega, show (d + d / 16) % 16 = d % 16 + d / 16 by omega]
theorem rc_v4 {a b c d : Nat} (ha : a ≤ 8) (hb : b ≤ 8) (hc : c ≤ 8) (hd : d ≤ 8) : rc_q a b c d * 16843009 % 4294967296 / 16777216 = a + b + c + d := by
  have e : rc_q a b c d * 16843009 = (65793 * a + 65792 * b + 65536 * c + 16777216 * (a + b + c + d)) + 4294967296 * (b + 257 * c + 65793 * d) := by
    unfold rc_q
    omega
  rw [e, Nat.add_mul_mod_self_left, Nat.mod_eq_of_lt (by omega)]
  omega
theorem rc_of32 (x : Int32) : ∃ n, n < 4294967296 ∧ x = nI n :=
  ⟨x.toBitVec.toNat, x.toBitVec.isLt, by
    apply Int32.toBitVec_inj.1
    show x.toBitVec = BitVec.ofNat 32 x.toBitVec.toNat
    simp⟩
theorem rc_nand (a b : Nat) : nI a &&& nI b = nI (a &&& b) := by
  apply Int32.toBitVec_inj.1
  show BitVec.ofNat 32 a &&& BitVec.ofNat 32 b = BitVec.ofNat 32 (a &&& b)
  apply BitVec.eq_of_getLsbD_eq
  intro i hi
  simp [hi]
theorem rc_nmod (a : Nat) : nI a = nI (a % 4294967296) := by
  apply Int32.toBitVec_inj.1
  show BitVec.ofNat 32 a = BitVec.ofNat 32 (a % 4294967296)
  apply BitVec.eq_of_toNat_eq
  simp
theorem rc_ones {post : Int32 → Prop} (x : Int32) (H : post (nI (rc_n (rb_t x) 32))) : wpX_ones post () x := by
  obtain ⟨n, hn, rfl⟩ := rc_of32 x
  obtain ⟨a, b, c, d, ha, hb, hc, hd, rfl⟩ := rc_split hn
  have ga := rc_byte a ha
  have gb := rc_byte b hb
  have gc := rc_byte c hc
  have gd := rc_byte d hd
  have w1 := rc_v1 ha hb hc hd
  have w2 : (rc_q (rc_c a) (rc_c b) (rc_c c) (rc_c d) &&& 858993459) + (rc_q (rc_c a) (rc_c b) (rc_c c) (rc_c d) / 4 &&& 858993459) = rc_q (rc_d a) (rc_d b) (rc_d c) (rc_d d) := rc_v2 ga.2.1 gb.2.1 gc.2.1 gd.2.1
  have w3 := rc_v3 ⟨ga.2.2.1, ga.2.2.2.1⟩ ⟨gb.2.2.1, gb.2.2.2.1⟩ ⟨gc.2.2.1, gc.2.2.2.1⟩ ⟨gd.2.2.1, gd.2.2.2.1⟩
  rw [ga.2.2.2.2, gb.2.2.2.2, gc.2.2.2.2, gd.2.2.2.2] at w3
  have p1 : rc_q (rc_c a) (rc_c b) (rc_c c) (rc_c d) < 4294967296 := by
    have := ga.2.1; have := gb.2.1; have := gc.2.1; have := gd.2.1
    unfold rc_q
    omega
  have p2 : rc_q (rc_d a) (rc_d b) (rc_d c) (rc_d d) < 4294967296 := by
    have := ga.2.2; have := gb.2.2; have := gc.2.2; have := gd.2.2
    unfold rc_q
    omega
  have w4 := rc_v4 (rc_n_le (fun i => a.testBit i) 8) (rc_n_le (fun i => b.testBit i) 8) (rc_n_le (fun i => c.testBit i) 8) (rc_n_le (fun i => d.testBit i) 8)
  have w5 : rc_n (rb_t (nI (rc_q a b c d))) 32 = rc_pb a + rc_pb b + rc_pb c + rc_pb d := by
    rw [← rc_pbq ha hb hc hd]
    exact rc_n_ext 32 (fun i hi => rb_nI _ hi)
  unfold wpX_ones
  refine nm_r (e' := nI (rc_q (rc_c a) (rc_c b) (rc_c c) (rc_c d))) ?_ (nm_r (e' := nI (rc_q (rc_d a) (rc_d b) (rc_d c) (rc_d d))) ?_ (nm_r (e' := nI (rc_q (rc_pb a) (rc_pb b) (rc_pb c) (rc_pb d))) ?_ ?_))
  · rw [pk_ushrN hn 1 1 (by decide)]
    show nI (rc_q a b c d) - (nI (rc_q a b c d / 2) &&& nI 1431655765) = _
    rw [rc_nand, pk_sub w1.1, w1.2]
  · rw [pk_ushrN p1 2 2 (by decide)]
    show (nI (rc_q (rc_c a) (rc_c b) (rc_c c) (rc_c d)) &&& nI 858993459) + (nI (rc_q (rc_c a) (rc_c b) (rc_c c) (rc_c d) / 4) &&& nI 858993459) = _
    rw [rc_nand, rc_nand, nI_add, w2]
  · rw [pk_ushrN p2 4 4 (by decide)]
    show (nI (rc_q (rc_d a) (rc_d b) (rc_d c) (rc_d d)) + nI (rc_q (rc_d a) (rc_d b) (rc_d c) (rc_d d) / 16)) &&& nI 252645135 = _
    rw [nI_add, rc_nand, w3]
  · have e : nI (rc_q (rc_pb a) (rc_pb b) (rc_pb c) (rc_pb d)) * 16843009 = nI (rc_q (rc_pb a) (rc_pb b) (rc_pb c) (rc_pb d) * 16843009 % 4294967296) := by
      show nI (rc_q (rc_pb a) (rc_pb b) (rc_pb c) (rc_pb d)) * nI 16843009 = _
      rw [pk_mul, rc_nmod]
    rw [e, pk_ushrN (Nat.mod_lt _ (by decide)) 24 24 (by decide)]
    have w4' : rc_q (rc_pb a) (rc_pb b) (rc_pb c) (rc_pb d) * 16843009 % 4294967296 / 2 ^ 24 = rc_pb a + rc_pb b + rc_pb c + rc_pb d := w4
    rw [w4', ← w5]
    exact H
end
end
section
/-! numbers -/
section
theorem rc_mi (m k i : Nat) : nI m * nI k + nI i = nI (m * k + i) := by rw [pk_mul, nI_add]
theorem rc_mm (m k l i : Nat) : nI m * nI k + nI l * nI i = nI (m * k + l * i) := by rw [pk_mul, pk_mul, nI_add]
theorem rc_m8 (k i : Nat) : (8 : Int32) * nI k + nI i = nI (8 * k + i) := rc_mi 8 k i
theorem rc_m4 (k i : Nat) : (4 : Int32) * nI k + nI i = nI (4 * k + i) := rc_mi 4 k i
theorem rc_z (i : Nat) : (0 : Int32) + nI i = nI i := by
  show nI 0 + nI i = nI i
  rw [nI_add, Nat.zero_add]
theorem rc_sh5 {y : Nat} (h : y < 2 ^ 31) : nI y >>> ((5 : Int32) &&& 31) = nI (y / 32) := pk_shrN h _ 5 (by decide)
theorem rc_sh7 {y : Nat} (h : y < 2 ^ 31) : nI y >>> ((7 : Int32) &&& 31) = nI (y / 128) := pk_shrN h _ 7 (by decide)
theorem rc_an5 {y : Nat} (h : y < 2 ^ 31) : nI y &&& (31 : Int32) = nI (y % 32) := pk_andN (by omega) 5 (by decide)
theorem rc_beq {a b : Bool} (h : a = true ↔ b = true) : a = b := Bool.eq_iff_iff.mpr h
theorem rc_fill {f s : Nat → Int32} {i k : Nat} {x : Int32} (hk : k = i) (h : ∀ j, j < i → s j = f j) (hx : x = f i) : ∀ j, j < i + 1 → upd s k x j = f j := by
  intro j hj
  rw [hk]
  by_cases e : j = i
  · rw [e, pk_us, hx]
  · rw [pk_un e]
    exact h j (by omega)
end
/-! the bits of an array of words -/
section
def rc_w (a : Nat → Int32) (x : Nat) : Bool := rb_t (a (x / 32)) (x % 32)
theorem rc_w_put (a : Nat → Int32) (w : Nat) (v : Int32) (x : Nat) : rc_w (upd a w v) x = if x / 32 = w then rb_t v (x % 32) else rc_w a x := by
  unfold rc_w
  by_cases h : x / 32 = w
  · rw [if_pos h, h, pk_us]
  · rw [if_neg h, pk_un h]
theorem rc_w_or (a : Nat → Int32) (w : Nat) (m : Int32) (x : Nat) : rc_w (upd a w (a w ||| m)) x = (rc_w a x || (decide (x / 32 = w) && rb_t m (x % 32))) := by
  rw [rc_w_put]
  by_cases h : x / 32 = w
  · rw [if_pos h, rb_or]
    unfold rc_w
    rw [h]
    simp
  · rw [if_neg h]
    simp [h]
theorem rc_m15 {post : Int32 → Prop} {f w : Nat} {z : Int32} (hf : f / 32 ≤ w) (hw : w < 16) (H : ∀ m, (∀ i, i < 32 → rb_t m i = (rb_t z i && decide (f ≤ 32 * w + i))) → post m) : wX_maskOf_15 post (nI f - nI (32 * w)) z := by
  unfold wX_maskOf_15
  rcases Nat.lt_or_ge (32 * w) f with h | h
  · rw [pk_sub (Nat.le_of_lt h)]
    refine br_t (nI_lt (a := 0) (by omega) (by omega)) (nm_e (H _ (fun i hi => ?_)))
    rw [rb_and, rb_not _ hi, rb_lo _ (by omega) i hi, ← decide_not]
    congr 1
    exact decide_eq_decide.mpr (by omega)
  · have hn : ¬ (0 : Int32) < nI f - nI (32 * w) := by
      intro hl
      rw [Int32.lt_iff_toInt_lt, pk_sub_toInt (by omega) (by omega)] at hl
      have h0 : (0 : Int32).toInt = 0 := by decide
      omega
    refine br_f hn (H _ (fun i hi => ?_))
    rw [rb_and, rb_not _ hi, rb_0, decide_eq_true (show f ≤ 32 * w + i by omega)]
    rfl
theorem rc_mask {post : Int32 → Prop} {f t w : Nat} (hf : f / 32 ≤ w) (hw : w ≤ t / 32) (ht : t < 512) (H : ∀ m, (∀ i, i < 32 → rb_t m i = decide (f ≤ 32 * w + i ∧ 32 * w + i ≤ t)) → post m) : wpX_maskOf post () (nI f - (32 * nI w)) (nI t - (32 * nI w)) := by
  have e : (32 : Int32) * nI w = nI (32 * w) := pk_mul 32 w
  rw [e, pk_sub (show 32 * w ≤ t by omega)]
  unfold wpX_maskOf
  refine pk_lt (t - 32 * w) 31 (fun h => rc_m15 hf (by omega) (fun m hm => H m (fun i hi => ?_))) (fun h => rc_m15 hf (by omega) (fun m hm => H m (fun i hi => ?_)))
  · rw [hm i hi, rb_hi _ h i hi]
    apply rc_beq
    simp only [Bool.and_eq_true, decide_eq_true_eq]
    omega
  · rw [hm i hi, rb_m1 i hi, Bool.true_and]
    exact decide_eq_decide.mpr (by omega)
end
/-! a chunk in one of its three forms holds the bits f -/
section
def rc_R (a1 a3 a4 : Nat → Int32) (k : Nat) (f : Nat → Bool) : Prop :=
  (a1 k = 0 ∧ ∃ p : Nat, p ≤ 8 ∧ a3 k = nI p ∧ ∃ D : Nat → Nat, (∀ i, i < p → D i < 128 ∧ a4 (8 * k + i) = nI (D i)) ∧ ∀ x, x < 128 → (f x = true ↔ ∃ i, i < p ∧ D i = x))
  ∨ (a1 k = 2 ∧ ∃ p : Nat, p ≤ 4 ∧ a3 k = nI p ∧ ∃ F T : Nat → Nat, (∀ i, i < p → F i ≤ T i ∧ T i < 128 ∧ a4 (8 * k + 2 * i) = nI (F i) ∧ a4 (8 * k + 2 * i + 1) = nI (T i)) ∧ ∀ x, x < 128 → (f x = true ↔ ∃ i, i < p ∧ F i ≤ x ∧ x ≤ T i))
  ∨ (a1 k = 1 ∧ ∀ x, x < 128 → f x = rc_w (fun w => a4 (8 * k + w)) x)
theorem rc_R_ext {a1 a3 a4 b1 b3 b4 : Nat → Int32} {k : Nat} {f g : Nat → Bool} (h : rc_R a1 a3 a4 k f) (h1 : b1 k = a1 k) (h3 : b3 k = a3 k) (h4 : ∀ i, i < 8 → b4 (8 * k + i) = a4 (8 * k + i)) (hg : ∀ x, x < 128 → g x = f x) : rc_R b1 b3 b4 k g := by
  rcases h with ⟨e, p, hp, hq, D, hD, hx⟩ | ⟨e, p, hp, hq, F, T, hD, hx⟩ | ⟨e, hx⟩
  · refine Or.inl ⟨by rw [h1, e], p, hp, by rw [h3, hq], D, fun i hi => ⟨(hD i hi).1, ?_⟩, fun x z => ?_⟩
    · rw [h4 i (by omega)]
      exact (hD i hi).2
    · rw [hg x z]
      exact hx x z
  · refine Or.inr (Or.inl ⟨by rw [h1, e], p, hp, by rw [h3, hq], F, T, fun i hi => ⟨(hD i hi).1, (hD i hi).2.1, ?_, ?_⟩, fun x z => ?_⟩)
    · rw [h4 (2 * i) (by omega)]
      exact (hD i hi).2.2.1
    · rw [Nat.add_assoc, h4 (2 * i + 1) (by omega), ← Nat.add_assoc]
      exact (hD i hi).2.2.2
    · rw [hg x z]
      exact hx x z
  · refine Or.inr (Or.inr ⟨by rw [h1, e], fun x z => ?_⟩)
    rw [hg x z, hx x z]
    unfold rc_w
    dsimp only
    rw [h4 (x / 32) (by omega)]
theorem rc_load57 {post : St2 → Prop} {t : Int32} {a1 a2 a3 a4 a5 a6 a7 : Nat → Int32} {k p : Nat} {D : Nat → Nat} (hk : k < 12) (hp : p ≤ 8) (h3 : a3 k = nI p) (hD : ∀ i, i < p → D i < 128 ∧ a4 (8 * k + i) = nI (D i)) (h0 : ∀ x, x < 128 → rc_w a5 x = false)
    (H : ∀ b, (∀ x, x < 128 → (rc_w b x = true ↔ ∃ i, i < p ∧ D i = x)) → post (t, a1, a2, a3, a4, b, a6, a7)) : ∃ n, wX_load_57 post (nI k) 0 t n 0 a1 a2 a3 a4 a5 a6 a7 := by
  have ck : (nI k).toNatClampNeg = k := nI_clamp (by omega)
  refine pk_loop (fun n i s => wX_load_57 post (nI k) 0 t n (nI i) a1 a2 a3 a4 s a6 a7) (fun i s => ∀ x, x < 128 → (rc_w s x = true ↔ ∃ j, j < i ∧ D j = x)) p 0 a5 (by omega) ?_ ?_ ?_
  · intro x hx
    rw [h0 x hx]
    exact ⟨fun z => absurd z (by decide), fun ⟨j, hj, _⟩ => absurd hj (by omega)⟩
  · intro n s h
    exact ⟨pk_in k 12 hk, pk_le p p (fun _ => H s h) (fun z => absurd z (by omega)) (hx := by rw [ck]; exact h3)⟩
  · intro n i s hi h hw
    have hd := (hD i hi).1
    have e4 : a4 ((8 * nI k) + nI i).toNatClampNeg = nI (D i) := by
      rw [pk_cl (8 * k + i) (rc_m8 k i)]
      exact (hD i hi).2
    have ew : (0 : Int32) + (nI (D i) >>> ((5 : Int32) &&& 31)) = nI (D i / 32) := by rw [rc_sh5 (by omega), rc_z]
    refine ⟨pk_in k 12 hk, pk_le p i (fun z => absurd z (by omega)) (fun _ => ⟨pk_in (8 * k + i) 96 (by omega) (rc_m8 k i), nm_r e4 ⟨pk_in (D i / 32) 8 (by omega) ew, pk_in (D i / 32) 8 (by omega) ew, nm_r (e' := upd s (D i / 32) (s (D i / 32) ||| ((1 : Int32) <<< (nI (D i % 32) &&& 31)))) ?_ (nm_r (nI_1 i) (hw _ ?_))⟩⟩) (hx := by rw [ck]; exact h3)⟩
    · rw [ew, rc_an5 (show D i < 2 ^ 31 by omega), nI_clamp (show D i / 32 < 2 ^ 31 by omega)]
    · intro x hx
      rw [rc_w_or, rb_pt (D i % 32) (by omega) (x % 32) (by omega), Bool.or_eq_true, Bool.and_eq_true, decide_eq_true_eq, decide_eq_true_eq, h x hx]
      constructor
      · rintro (⟨j, hj, e⟩ | ⟨e1, e2⟩)
        · exact ⟨j, by omega, e⟩
        · exact ⟨i, by omega, by omega⟩
      · rintro ⟨j, hj, e⟩
        by_cases z : j = i
        · right
          rw [z] at e
          rw [e]
          exact ⟨rfl, rfl⟩
        · left
          exact ⟨j, by omega, e⟩
theorem rc_load179 {post : St2 → Prop} {t : Int32} {J : Int32 → (Nat → Int32) → (Nat → Int32) → (Nat → Int32) → (Nat → Int32) → (Nat → Int32) → (Nat → Int32) → (Nat → Int32) → Prop} {a1 a2 a3 a4 a5 a6 a7 : Nat → Int32} {k i F T : Nat} (hFT : F ≤ T) (hT : T < 128)
    (H : ∀ b, (∀ x, x < 128 → rc_w b x = (rc_w a5 x || decide (F ≤ x ∧ x ≤ T))) → J (nI (i + 1)) a1 a2 a3 a4 b a6 a7) : ∃ n, wX_load_179 post J (nI k) 0 (nI i) (nI F) (nI T) t n (nI (F / 32)) a1 a2 a3 a4 a5 a6 a7 := by
  refine pk_loop (fun n w s => wX_load_179 post J (nI k) 0 (nI i) (nI F) (nI T) t n (nI w) a1 a2 a3 a4 s a6 a7) (fun w s => F / 32 ≤ w ∧ ∀ x, x < 128 → rc_w s x = (rc_w a5 x || decide (F ≤ x ∧ x ≤ T ∧ x / 32 < w))) (T / 32 + 1) (F / 32) a5 (by omega) ?_ ?_ ?_
  · refine ⟨by omega, fun x hx => ?_⟩
    rw [decide_eq_false (by omega), Bool.or_false]
  · intro n s h
    refine pk_lt (T / 32) (T / 32 + 1) (fun _ => nm_r (nI_1 i) (H s (fun x hx => ?_))) (fun z => absurd z (by omega)) (hx := rc_sh5 (by omega))
    rw [h.2 x hx]
    congr 1
    exact decide_eq_decide.mpr (by omega)
  · intro n w s hw h ih
    refine pk_lt (T / 32) w (fun z => absurd z (by omega)) (fun _ => ⟨pk_in w 8 (by omega) (rc_z w), rc_mask (f := F) (t := T) (w := w) h.1 (by omega) (by omega) (fun m hm => ⟨pk_in w 8 (by omega) (rc_z w), nm_r (e' := upd s w (s w ||| m)) ?_ (nm_r (nI_1 w) (ih _ ⟨by omega, fun x hx => ?_⟩))⟩)⟩) (hx := rc_sh5 (by omega))
    · rw [rc_z, nI_clamp (show w < 2 ^ 31 by omega)]
    · have hmx := hm (x % 32) (by omega)
      rw [rc_w_or, hmx, h.2 x hx, Bool.or_assoc]
      congr 1
      apply rc_beq
      simp only [Bool.or_eq_true, Bool.and_eq_true, decide_eq_true_eq]
      omega
theorem rc_load131 {post : St2 → Prop} {t : Int32} {a1 a2 a3 a4 a5 a6 a7 : Nat → Int32} {k p : Nat} {F T : Nat → Nat} (hk : k < 12) (hp : p ≤ 4) (h3 : a3 k = nI p) (hD : ∀ i, i < p → F i ≤ T i ∧ T i < 128 ∧ a4 (8 * k + 2 * i) = nI (F i) ∧ a4 (8 * k + 2 * i + 1) = nI (T i)) (h0 : ∀ x, x < 128 → rc_w a5 x = false)
    (H : ∀ b, (∀ x, x < 128 → (rc_w b x = true ↔ ∃ i, i < p ∧ F i ≤ x ∧ x ≤ T i)) → post (t, a1, a2, a3, a4, b, a6, a7)) : ∃ n, wX_load_131 post (nI k) 0 t n 0 a1 a2 a3 a4 a5 a6 a7 := by
  have ck : (nI k).toNatClampNeg = k := nI_clamp (by omega)
  refine pk_loop (fun n i s => wX_load_131 post (nI k) 0 t n (nI i) a1 a2 a3 a4 s a6 a7) (fun i s => ∀ x, x < 128 → (rc_w s x = true ↔ ∃ j, j < i ∧ F j ≤ x ∧ x ≤ T j)) p 0 a5 (by omega) ?_ ?_ ?_
  · intro x hx
    rw [h0 x hx]
    exact ⟨fun z => absurd z (by decide), fun ⟨j, hj, _⟩ => absurd hj (by omega)⟩
  · intro n s h
    exact ⟨pk_in k 12 hk, pk_le p p (fun _ => H s h) (fun z => absurd z (by omega)) (hx := by rw [ck]; exact h3)⟩
  · intro n i s hi h hw
    obtain ⟨g1, g2, g3, g4⟩ := hD i hi
    have i1 : ((8 : Int32) * nI k) + (2 * nI i) = nI (8 * k + 2 * i) := rc_mm 8 k 2 i
    have i2 : (((8 : Int32) * nI k) + (2 * nI i)) + 1 = nI (8 * k + 2 * i + 1) := by rw [i1, nI_1]
    have e4 : a4 (((8 : Int32) * nI k) + (2 * nI i)).toNatClampNeg = nI (F i) := by
      rw [pk_cl (8 * k + 2 * i) i1]
      exact g3
    have e5 : a4 ((((8 : Int32) * nI k) + (2 * nI i)) + 1).toNatClampNeg = nI (T i) := by
      rw [pk_cl (8 * k + 2 * i + 1) i2]
      exact g4
    refine ⟨pk_in k 12 hk, pk_le p i (fun z => absurd z (by omega)) (fun _ => ⟨pk_in (8 * k + 2 * i) 96 (by omega) i1, nm_r e4 ⟨pk_in (8 * k + 2 * i + 1) 96 (by omega) i2, nm_r e5 (nm_r (rc_sh5 (by omega)) (rc_load179 g1 g2 (fun b hb => hw b (fun x hx => ?_))))⟩⟩) (hx := by rw [ck]; exact h3)⟩
    rw [hb x hx, Bool.or_eq_true, decide_eq_true_eq, h x hx]
    constructor
    · rintro (⟨j, hj, e⟩ | e)
      · exact ⟨j, by omega, e⟩
      · exact ⟨i, by omega, e⟩
    · rintro ⟨j, hj, e⟩
      by_cases z : j = i
      · right
        rw [z] at e
        exact e
      · left
        exact ⟨j, by omega, e⟩
theorem rc_load2 {post : St2 → Prop} {t : Int32} {a1 a2 a3 a4 a5 a6 a7 : Nat → Int32} {k : Nat} (hk : k < 12) (V : Nat → Int32) (hV1 : a1 k = 1 → ∀ w, w < 4 → V w = a4 (8 * k + w)) (hV0 : ¬ a1 k = 1 → ∀ w, w < 4 → V w = 0)
    (H : ∀ b, (∀ w, w < 4 → b w = V w) → ((a1 k = 0 → (∃ n, wX_load_57 post (nI k) 0 t n 0 a1 a2 a3 a4 b a6 a7)) ∧ (¬ a1 k = 0 → ((a1 k = 2 → (∃ n, wX_load_131 post (nI k) 0 t n 0 a1 a2 a3 a4 b a6 a7)) ∧ (¬ a1 k = 2 → post (t, a1, a2, a3, a4, b, a6, a7)))))) : wpX_load post (t, a1, a2, a3, a4, a5, a6, a7) (nI k) 0 := by
  have ck : (nI k).toNatClampNeg = k := nI_clamp (by omega)
  refine pk_loop (fun n i s => wX_load_2 post (nI k) 0 t n (nI i) a1 a2 a3 a4 s a6 a7) (fun i s => ∀ w, w < i → s w = V w) 4 0 a5 (by omega) (fun w hw => absurd hw (by omega)) ?_ ?_
  · intro n s h
    refine pk_le 4 4 (fun _ => ⟨pk_in k 12 hk, ?_⟩) (fun z => absurd z (by omega))
    have g := H s h
    rw [ck]
    exact ⟨g.1, fun z => ⟨pk_in k 12 hk, g.2 z⟩⟩
  · intro n i s hi h hw
    refine pk_le 4 i (fun z => absurd z (by omega)) (fun _ => ⟨pk_in k 12 hk, ?_⟩)
    rw [ck]
    refine br_c (fun z => ⟨pk_in (8 * k + i) 96 (by omega) (rc_m8 k i), pk_in i 8 (by omega) (rc_z i), nm_e (nm_r (nI_1 i) (hw _ (rc_fill ?_ h ?_)))⟩) (fun z => ⟨pk_in i 8 (by omega) (rc_z i), nm_e (nm_r (nI_1 i) (hw _ (rc_fill ?_ h ?_)))⟩)
    · rw [rc_z, nI_clamp (show i < 2 ^ 31 by omega)]
    · rw [pk_cl (8 * k + i) (rc_m8 k i), hV1 z i hi]
    · rw [rc_z, nI_clamp (show i < 2 ^ 31 by omega)]
    · rw [hV0 z i hi]
/-- load: the buffer holds the chunk's bits -/
theorem rc_load {post : St2 → Prop} {t : Int32} {a1 a2 a3 a4 a5 a6 a7 : Nat → Int32} {k : Nat} {f : Nat → Bool} (hk : k < 12) (hR : rc_R a1 a3 a4 k f)
    (H : ∀ b, (∀ x, x < 128 → rc_w b x = f x) → post (t, a1, a2, a3, a4, b, a6, a7)) : wpX_load post (t, a1, a2, a3, a4, a5, a6, a7) (nI k) 0 := by
  have h01 : ¬ (0 : Int32) = 1 := by decide
  have h20 : ¬ (2 : Int32) = 0 := by decide
  have h21 : ¬ (2 : Int32) = 1 := by decide
  have h10 : ¬ (1 : Int32) = 0 := by decide
  have h12 : ¬ (1 : Int32) = 2 := by decide
  have cl : ∀ b : Nat → Int32, (∀ w, w < 4 → b w = 0) → ∀ x, x < 128 → rc_w b x = false := by
    intro b hb x hx
    unfold rc_w
    rw [hb _ (by omega), rb_0]
  rcases hR with ⟨e, p, hp, hq, D, hD, hx⟩ | ⟨e, p, hp, hq, F, T, hD, hx⟩ | ⟨e, hx⟩
  · refine rc_load2 hk (fun _ => 0) (fun z => absurd (e.symm.trans z) h01) (fun _ _ _ => rfl) (fun b hb => br_t e (rc_load57 hk hp hq hD (cl b hb) (fun c hc => H c (fun x z => rc_beq ?_))))
    rw [hc x z, hx x z]
  · refine rc_load2 hk (fun _ => 0) (fun z => absurd (e.symm.trans z) h21) (fun _ _ _ => rfl) (fun b hb => br_f (fun z => h20 (e.symm.trans z)) (br_t e (rc_load131 hk hp hq hD (cl b hb) (fun c hc => H c (fun x z => rc_beq ?_)))))
    rw [hc x z, hx x z]
  · refine rc_load2 hk (fun w => a4 (8 * k + w)) (fun _ _ _ => rfl) (fun z => absurd e z) (fun b hb => br_f (fun z => h10 (e.symm.trans z)) (br_f (fun z => h12 (e.symm.trans z)) (H b (fun x z => ?_))))
    rw [hx x z]
    unfold rc_w
    dsimp only
    rw [hb _ (by omega)]
end
end
section
/-! the first loop of save: numbers and pieces -/
section
def rc_st (f : Nat → Bool) (x : Nat) : Bool := f x && !(decide (0 < x) && f (x - 1))
def rc_cy (a : Nat → Int32) : Nat → Int32
  | 0 => 0
  | i + 1 => ((a i).toUInt32 >>> ((31 : Int32).toUInt32 &&& Int32.toUInt32 31)).toInt32
theorem rc_st_f {f : Nat → Bool} {x : Nat} (h : f x = false) : rc_st f x = false := by
  unfold rc_st
  rw [h]
  rfl
theorem rc_st_new {f : Nat → Bool} {x : Nat} (h : f x = true) (h2 : x = 0 ∨ f (x - 1) = false) : rc_st f x = true := by
  unfold rc_st
  rw [h]
  rcases h2 with h2 | h2
  · rw [h2]; rfl
  · rw [h2, Bool.and_false]; rfl
theorem rc_st_old {f : Nat → Bool} {x : Nat} (h0 : 0 < x) (h2 : f (x - 1) = true) : rc_st f x = false := by
  unfold rc_st
  rw [h2, decide_eq_true h0]
  simp
theorem rc_w_at (a : Nat → Int32) (i : Nat) {j : Nat} (hj : j < 32) : rc_w a (32 * i + j) = rb_t (a i) j := by
  unfold rc_w
  rw [show (32 * i + j) / 32 = i by omega, show (32 * i + j) % 32 = j by omega]
theorem rc_wcnt (a : Nat → Int32) (i : Nat) : rc_n (rc_w a) (32 * (i + 1)) = rc_n (rc_w a) (32 * i) + rc_n (rb_t (a i)) 32 := by
  rw [Nat.mul_succ, rc_n_add]
  congr 1
  exact rc_n_ext 32 (fun j hj => rc_w_at a i hj)
theorem rc_piece (a : Nat → Int32) (i : Nat) : rc_n (rc_st (rc_w a)) (32 * (i + 1)) = rc_n (rc_st (rc_w a)) (32 * i) + rc_n (rb_t ((a i) &&& ((((a i) <<< ((1 : Int32) &&& 31)) ||| rc_cy a i) ^^^ (-1)))) 32 := by
  rw [Nat.mul_succ, rc_n_add]
  congr 1
  refine rc_n_ext 32 (fun j hj => ?_)
  show rc_st (rc_w a) (32 * i + j) = _
  have es : rb_t ((a i) <<< ((1 : Int32) &&& 31)) j = (decide (1 ≤ j) && rb_t (a i) (j - 1)) := rb_shl 1 (by omega) (a i) hj
  rw [rb_and, rb_not _ hj, rb_or, es]
  unfold rc_st
  rw [rc_w_at a i hj]
  congr 2
  by_cases z : j = 0
  · subst z
    cases i with
    | zero => simp [rc_cy, rb_0]
    | succ i =>
      have ec : rb_t (rc_cy a (i + 1)) 0 = rb_t (a i) 31 := rb_ushr 31 (by omega) (a i) 0
      have ew : rc_w a (32 * (i + 1) + 0 - 1) = rb_t (a i) 31 := by
        rw [show 32 * (i + 1) + 0 - 1 = 32 * i + 31 by omega]
        exact rc_w_at a i (by omega)
      rw [ec, ew, decide_eq_true (show 0 < 32 * (i + 1) + 0 by omega)]
      simp
  · have ec : rb_t (rc_cy a i) j = false := by
      cases i with
      | zero => exact rb_0 j
      | succ i =>
        have ec : rb_t (rc_cy a (i + 1)) j = rb_t (a i) (31 + j) := rb_ushr 31 (by omega) (a i) j
        rw [ec]
        exact rb_big (by omega)
    have ew : rc_w a (32 * i + j - 1) = rb_t (a i) (j - 1) := by
      rw [show 32 * i + j - 1 = 32 * i + (j - 1) by omega]
      exact rc_w_at a i (by omega)
    rw [ec, ew, decide_eq_true (show 0 < 32 * i + j by omega), decide_eq_true (show 1 ≤ j by omega), Bool.or_false]
theorem rc_inb {post : Int32 → Prop} {t : Int32} {a1 a2 a3 a4 a5 a6 a7 : Nat → Int32} {x : Nat} (hx : x < 128) (H1 : rc_w a5 x = true → post 1) (H0 : rc_w a5 x = false → post 0) : wpX_inBuffer post (t, a1, a2, a3, a4, a5, a6, a7) (nI x) := by
  unfold wpX_inBuffer
  rw [rc_sh5 (show x < 2 ^ 31 by omega), rc_an5 (show x < 2 ^ 31 by omega), nI_clamp (show x / 32 < 2 ^ 31 by omega)]
  exact ⟨pk_in (x / 32) 8 (by omega), ek_if (rb_test (a5 (x / 32)) (x % 32) (by omega)) H1 (fun z => H0 (Bool.eq_false_iff.mpr z))⟩
end
/-! runs -/
section
def rc_up (F : Nat → Nat) (p x : Nat) : Nat → Nat := fun i => if i = p then x else F i
theorem rc_up_e {F : Nat → Nat} {p x i : Nat} (h : i = p) : rc_up F p x i = x := if_pos h
theorem rc_up_n {F : Nat → Nat} {p x i : Nat} (h : ¬ i = p) : rc_up F p x i = F i := if_neg h
def rc_IR (f : Nat → Bool) (a3 a4 : Nat → Int32) (k x : Nat) (s : (Nat → Int32) × (Nat → Int32)) : Prop :=
  (∀ j, j ≠ k → s.1 j = a3 j) ∧ (∀ j, j ≠ k → ∀ i, i < 8 → s.2 (8 * j + i) = a4 (8 * j + i)) ∧ s.1 k = nI (rc_n (rc_st f) x) ∧ ∃ F T : Nat → Nat,
    (∀ i, i < rc_n (rc_st f) x → F i ≤ T i ∧ T i < x ∧ s.2 (8 * k + 2 * i) = nI (F i) ∧ s.2 (8 * k + 2 * i + 1) = nI (T i)) ∧
    (∀ y, y < x → (f y = true ↔ ∃ i, i < rc_n (rc_st f) x ∧ F i ≤ y ∧ y ≤ T i)) ∧
    (0 < x → f (x - 1) = true → 0 < rc_n (rc_st f) x ∧ T (rc_n (rc_st f) x - 1) = x - 1)
theorem rc_IR_0 (f : Nat → Bool) (a3 a4 : Nat → Int32) (k : Nat) (h : a3 k = nI 0) : rc_IR f a3 a4 k 0 (a3, a4) :=
  ⟨fun _ _ => rfl, fun _ _ _ _ => rfl, h, fun _ => 0, fun _ => 0, fun i hi => absurd hi (Nat.not_lt_zero i), fun y hy => absurd hy (Nat.not_lt_zero y), fun h => absurd h (Nat.not_lt_zero 0)⟩
theorem rc_IR_f {f : Nat → Bool} {a3 a4 : Nat → Int32} {k x : Nat} {s : (Nat → Int32) × (Nat → Int32)} (hf : f x = false) (h : rc_IR f a3 a4 k x s) : rc_IR f a3 a4 k (x + 1) s := by
  obtain ⟨h1, h2, h3, F, T, h4, h5, h6⟩ := h
  have e : rc_n (rc_st f) (x + 1) = rc_n (rc_st f) x := rc_n_f (rc_st_f hf)
  unfold rc_IR
  rw [e]
  refine ⟨h1, h2, h3, F, T, fun i hi => ?_, fun y hy => ?_, fun _ g => ?_⟩
  · obtain ⟨g1, g2, g3⟩ := h4 i hi
    exact ⟨g1, by omega, g3⟩
  · by_cases z : y = x
    · rw [z, hf]
      constructor
      · intro w
        exact absurd w (by decide)
      · rintro ⟨i, hi, g1, g2⟩
        have := (h4 i hi).2.1
        omega
    · exact h5 y (by omega)
  · rw [Nat.add_sub_cancel, hf] at g
    exact absurd g (by decide)
theorem rc_IR_new {f : Nat → Bool} {a3 a4 : Nat → Int32} {k x p : Nat} {s : (Nat → Int32) × (Nat → Int32)} (hf : f x = true) (hn : x = 0 ∨ f (x - 1) = false) (hp : p = rc_n (rc_st f) x) (hp3 : p ≤ 3) (h : rc_IR f a3 a4 k x s) :
    rc_IR f a3 a4 k (x + 1) (upd s.1 k (nI (p + 1)), upd (upd s.2 (8 * k + 2 * p) (nI x)) (8 * k + 2 * (p + 1) - 1) (nI x)) := by
  obtain ⟨h1, h2, h3, F, T, h4, h5, h6⟩ := h
  have e : rc_n (rc_st f) (x + 1) = p + 1 := by rw [hp]; exact rc_n_t (rc_st_new hf hn)
  unfold rc_IR
  rw [← hp] at h4 h5
  rw [e]
  dsimp only
  refine ⟨fun j hj => by rw [pk_un hj]; exact h1 j hj, fun j hj i hi => ?_, pk_us, rc_up F p x, rc_up T p x, fun i hi => ?_, fun y hy => ?_, fun _ _ => ⟨by omega, ?_⟩⟩
  · rw [pk_un (by omega), pk_un (by omega)]
    exact h2 j hj i hi
  · by_cases z : i = p
    · rw [rc_up_e z, rc_up_e z, z]
      refine ⟨Nat.le_refl _, by omega, ?_, ?_⟩
      · rw [pk_un (by omega), pk_us]
      · rw [show 8 * k + 2 * (p + 1) - 1 = 8 * k + 2 * p + 1 by omega, pk_us]
    · rw [rc_up_n z, rc_up_n z]
      obtain ⟨g1, g2, g3, g4⟩ := h4 i (by omega)
      refine ⟨g1, by omega, ?_, ?_⟩
      · rw [pk_un (by omega), pk_un (by omega)]
        exact g3
      · rw [pk_un (by omega), pk_un (by omega)]
        exact g4
  · by_cases z : y = x
    · rw [z, hf]
      exact ⟨fun _ => ⟨p, by omega, Nat.le_of_eq (rc_up_e rfl), Nat.le_of_eq (rc_up_e rfl).symm⟩, fun _ => rfl⟩
    · rw [h5 y (by omega)]
      constructor
      · rintro ⟨i, hi, g1, g2⟩
        exact ⟨i, by omega, by rw [rc_up_n (by omega)]; exact g1, by rw [rc_up_n (by omega)]; exact g2⟩
      · rintro ⟨i, hi, g1, g2⟩
        by_cases w : i = p
        · rw [rc_up_e w] at g1
          omega
        · rw [rc_up_n w] at g1 g2
          exact ⟨i, by omega, g1, g2⟩
  · show rc_up T p x (p + 1 - 1) = x + 1 - 1
    rw [rc_up_e (by omega)]
    omega
theorem rc_IR_old {f : Nat → Bool} {a3 a4 : Nat → Int32} {k x p : Nat} {s : (Nat → Int32) × (Nat → Int32)} (hf : f x = true) (h0 : 0 < x) (hn : f (x - 1) = true) (hp : p = rc_n (rc_st f) x) (hp4 : p ≤ 4) (h : rc_IR f a3 a4 k x s) :
    0 < p ∧ rc_IR f a3 a4 k (x + 1) (s.1, upd s.2 (8 * k + 2 * p - 1) (nI x)) := by
  obtain ⟨h1, h2, h3, F, T, h4, h5, h6⟩ := h
  have e : rc_n (rc_st f) (x + 1) = p := by rw [hp]; exact rc_n_f (rc_st_old h0 hn)
  rw [← hp] at h3 h4 h5 h6
  obtain ⟨q1, q2⟩ := h6 h0 hn
  refine ⟨q1, ?_⟩
  unfold rc_IR
  rw [e]
  dsimp only
  refine ⟨h1, fun j hj i hi => ?_, h3, F, rc_up T (p - 1) x, fun i hi => ?_, fun y hy => ?_, fun _ _ => ⟨q1, ?_⟩⟩
  · rw [pk_un (by omega)]
    exact h2 j hj i hi
  · obtain ⟨g1, g2, g3, g4⟩ := h4 i hi
    by_cases z : i = p - 1
    · rw [rc_up_e z]
      refine ⟨by omega, by omega, ?_, ?_⟩
      · rw [pk_un (by omega)]
        exact g3
      · rw [show 8 * k + 2 * p - 1 = 8 * k + 2 * i + 1 by omega, pk_us]
    · rw [rc_up_n z]
      refine ⟨g1, by omega, ?_, ?_⟩
      · rw [pk_un (by omega)]
        exact g3
      · rw [pk_un (by omega)]
        exact g4
  · by_cases z : y = x
    · rw [z, hf]
      refine ⟨fun _ => ⟨p - 1, by omega, ?_, Nat.le_of_eq (rc_up_e rfl).symm⟩, fun _ => rfl⟩
      have := (h4 (p - 1) (by omega)).1
      omega
    · rw [h5 y (by omega)]
      constructor
      · rintro ⟨i, hi, g1, g2⟩
        refine ⟨i, hi, g1, ?_⟩
        by_cases w : i = p - 1
        · rw [rc_up_e w]
          omega
        · rw [rc_up_n w]
          exact g2
      · rintro ⟨i, hi, g1, g2⟩
        refine ⟨i, hi, g1, ?_⟩
        by_cases w : i = p - 1
        · rw [w, q2]
          omega
        · rw [rc_up_n w] at g2
          exact g2
  · show rc_up T (p - 1) x (p - 1) = x + 1 - 1
    rw [rc_up_e rfl]
    omega
theorem rc_s60 {post : St2 → Prop} {t : Int32} {J : Int32 → (Nat → Int32) → (Nat → Int32) → (Nat → Int32) → (Nat → Int32) → (Nat → Int32) → (Nat → Int32) → (Nat → Int32) → Prop} {a1 a2 a3 a4 a5 a6 a7 : Nat → Int32} {k x p : Nat} (hk : k < 12) (hp0 : 0 < p) (hp : p ≤ 4) (h3 : a3 k = nI p)
    (H : J (nI (x + 1)) a1 a2 a3 (upd a4 (8 * k + 2 * p - 1) (nI x)) a5 a6 a7) : wX_saveRuns_60 post J (nI k) (nI x) t a1 a2 a3 a4 a5 a6 a7 := by
  have ck : (nI k).toNatClampNeg = k := nI_clamp (by omega)
  have ei : (((8 : Int32) * nI k) + (2 * nI p)) - 1 = nI (8 * k + 2 * p - 1) := by
    have e1 : ((8 : Int32) * nI k) + (2 * nI p) = nI (8 * k + 2 * p) := rc_mm 8 k 2 p
    rw [e1]
    exact pk_sub (b := 1) (by omega)
  unfold wX_saveRuns_60
  rw [ck, h3, ei, nI_clamp (show 8 * k + 2 * p - 1 < 2 ^ 31 by omega)]
  exact ⟨pk_in k 12 hk, pk_in (8 * k + 2 * p - 1) 96 (by omega), nm_e (nm_r (nI_1 x) H)⟩
theorem rc_s31 {post : St2 → Prop} {t : Int32} {J : Int32 → (Nat → Int32) → (Nat → Int32) → (Nat → Int32) → (Nat → Int32) → (Nat → Int32) → (Nat → Int32) → (Nat → Int32) → Prop} {a1 a2 a3 a4 a5 a6 a7 : Nat → Int32} {k x p : Nat} (hk : k < 12) (hp : p ≤ 3) (h3 : a3 k = nI p)
    (H : J (nI (x + 1)) a1 a2 (upd a3 k (nI (p + 1))) (upd (upd a4 (8 * k + 2 * p) (nI x)) (8 * k + 2 * (p + 1) - 1) (nI x)) a5 a6 a7) : wX_saveRuns_31 post J (nI k) (nI x) t a1 a2 a3 a4 a5 a6 a7 := by
  have ck : (nI k).toNatClampNeg = k := nI_clamp (by omega)
  have ei : ((8 : Int32) * nI k) + (2 * nI p) = nI (8 * k + 2 * p) := rc_mm 8 k 2 p
  unfold wX_saveRuns_31
  rw [ck, h3, ei, nI_clamp (show 8 * k + 2 * p < 2 ^ 31 by omega), nI_1]
  exact ⟨pk_in k 12 hk, pk_in (8 * k + 2 * p) 96 (by omega), nm_e ⟨pk_in k 12 hk, pk_in k 12 hk, nm_e (rc_s60 hk (by omega) (by omega) pk_us H)⟩⟩
theorem rc_sruns {post : St2 → Prop} {t : Int32} {a1 a2 a3 a4 a5 a6 a7 : Nat → Int32} {k : Nat} (hk : k < 12) (h3 : a3 k = nI 0) (hP : rc_n (rc_st (rc_w a5)) 128 ≤ 4)
    (H : ∀ b3 b4, rc_IR (rc_w a5) a3 a4 k 128 (b3, b4) → post (t, a1, a2, b3, b4, a5, a6, a7)) : wpX_saveRuns post (t, a1, a2, a3, a4, a5, a6, a7) (nI k) := by
  refine pk_loop (σ := (Nat → Int32) × (Nat → Int32)) (fun n x s => wX_saveRuns_2 post (nI k) t n (nI x) a1 a2 s.1 s.2 a5 a6 a7) (fun x s => rc_IR (rc_w a5) a3 a4 k x s) 128 0 (a3, a4) (by omega) (rc_IR_0 _ _ _ _ h3) ?_ ?_
  · intro n s h
    exact pk_le 128 128 (fun _ => H s.1 s.2 h) (fun z => absurd z (by omega))
  · intro n x s hx h hw
    have hb : rc_n (rc_st (rc_w a5)) (x + 1) ≤ 4 := Nat.le_trans (rc_n_mono _ (by omega)) hP
    have h31 : ∀ (g : rc_w a5 x = true) (g2 : x = 0 ∨ rc_w a5 (x - 1) = false), wX_saveRuns_31 post (wX_saveRuns_2 post (nI k) t n) (nI k) (nI x) t a1 a2 s.1 s.2 a5 a6 a7 := by
      intro g g2
      have ep := rc_n_t (rc_st_new g g2)
      exact rc_s31 hk (by omega) h.2.2.1 (hw _ (rc_IR_new g g2 rfl (by omega) h))
    refine pk_le 128 x (fun z => absurd z (by omega)) (fun _ => rc_inb hx (fun g => br_f (by decide) (pk_eq x 0 (fun z => h31 g (Or.inl z)) (fun z => ?_))) (fun g => br_t rfl (nm_r (nI_1 x) (hw s (rc_IR_f g h)))))
    have ex : nI x - 1 = nI (x - 1) := pk_sub (b := 1) (by omega)
    rw [ex]
    refine rc_inb (by omega) (fun g2 => br_f (by decide) ?_) (fun g2 => br_t rfl (h31 g (Or.inr g2)))
    have ep := rc_n_f (rc_st_old (by omega) g2)
    obtain ⟨p0, q⟩ := rc_IR_old g (by omega) g2 rfl (by omega) h
    exact rc_s60 hk p0 (by omega) h.2.2.1 (hw _ q)
end
/-! lists -/
section
def rc_IL (f : Nat → Bool) (a3 a4 : Nat → Int32) (k x : Nat) (s : (Nat → Int32) × (Nat → Int32)) : Prop :=
  (∀ j, j ≠ k → s.1 j = a3 j) ∧ (∀ j, j ≠ k → ∀ i, i < 8 → s.2 (8 * j + i) = a4 (8 * j + i)) ∧ s.1 k = nI (rc_n f x) ∧ ∃ D : Nat → Nat,
    (∀ i, i < rc_n f x → D i < x ∧ s.2 (8 * k + i) = nI (D i)) ∧ (∀ y, y < x → (f y = true ↔ ∃ i, i < rc_n f x ∧ D i = y))
theorem rc_IL_0 (f : Nat → Bool) (a3 a4 : Nat → Int32) (k : Nat) (h : a3 k = nI 0) : rc_IL f a3 a4 k 0 (a3, a4) :=
  ⟨fun _ _ => rfl, fun _ _ _ _ => rfl, h, fun _ => 0, fun i hi => absurd hi (Nat.not_lt_zero i), fun y hy => absurd hy (Nat.not_lt_zero y)⟩
theorem rc_IL_f {f : Nat → Bool} {a3 a4 : Nat → Int32} {k x : Nat} {s : (Nat → Int32) × (Nat → Int32)} (hf : f x = false) (h : rc_IL f a3 a4 k x s) : rc_IL f a3 a4 k (x + 1) s := by
  obtain ⟨h1, h2, h3, D, h4, h5⟩ := h
  have e : rc_n f (x + 1) = rc_n f x := rc_n_f hf
  unfold rc_IL
  rw [e]
  refine ⟨h1, h2, h3, D, fun i hi => ?_, fun y hy => ?_⟩
  · obtain ⟨g1, g2⟩ := h4 i hi
    exact ⟨by omega, g2⟩
  · by_cases z : y = x
    · rw [z, hf]
      constructor
      · intro w
        exact absurd w (by decide)
      · rintro ⟨i, hi, g1⟩
        have := (h4 i hi).1
        omega
    · exact h5 y (by omega)
theorem rc_IL_t {f : Nat → Bool} {a3 a4 : Nat → Int32} {k x p : Nat} {s : (Nat → Int32) × (Nat → Int32)} (hf : f x = true) (hp : p = rc_n f x) (hp7 : p ≤ 7) (h : rc_IL f a3 a4 k x s) :
    rc_IL f a3 a4 k (x + 1) (upd s.1 k (nI (p + 1)), upd s.2 (8 * k + p) (nI x)) := by
  obtain ⟨h1, h2, h3, D, h4, h5⟩ := h
  have e : rc_n f (x + 1) = p + 1 := by rw [hp]; exact rc_n_t hf
  rw [← hp] at h4 h5
  unfold rc_IL
  rw [e]
  dsimp only
  refine ⟨fun j hj => by rw [pk_un hj]; exact h1 j hj, fun j hj i hi => ?_, pk_us, rc_up D p x, fun i hi => ?_, fun y hy => ?_⟩
  · rw [pk_un (by omega)]
    exact h2 j hj i hi
  · by_cases z : i = p
    · rw [rc_up_e z, z]
      exact ⟨by omega, pk_us⟩
    · rw [rc_up_n z]
      obtain ⟨g1, g2⟩ := h4 i (by omega)
      refine ⟨by omega, ?_⟩
      rw [pk_un (by omega)]
      exact g2
  · by_cases z : y = x
    · rw [z, hf]
      exact ⟨fun _ => ⟨p, by omega, rc_up_e rfl⟩, fun _ => rfl⟩
    · rw [h5 y (by omega)]
      constructor
      · rintro ⟨i, hi, g1⟩
        exact ⟨i, by omega, by rw [rc_up_n (by omega)]; exact g1⟩
      · rintro ⟨i, hi, g1⟩
        by_cases w : i = p
        · rw [rc_up_e w] at g1
          omega
        · rw [rc_up_n w] at g1
          exact ⟨i, by omega, g1⟩
theorem rc_s139 {post : St2 → Prop} {t : Int32} {a1 a2 a3 a4 a5 a6 a7 : Nat → Int32} {k : Nat} (hk : k < 12) (h3 : a3 k = nI 0) (hP : rc_n (rc_w a5) 128 ≤ 8)
    (H : ∀ b3 b4, rc_IL (rc_w a5) a3 a4 k 128 (b3, b4) → post (t, a1, a2, b3, b4, a5, a6, a7)) : ∃ n, wX_save_139 post (nI k) t n 0 a1 a2 a3 a4 a5 a6 a7 := by
  have ck : (nI k).toNatClampNeg = k := nI_clamp (by omega)
  refine pk_loop (σ := (Nat → Int32) × (Nat → Int32)) (fun n x s => wX_save_139 post (nI k) t n (nI x) a1 a2 s.1 s.2 a5 a6 a7) (fun x s => rc_IL (rc_w a5) a3 a4 k x s) 128 0 (a3, a4) (by omega) (rc_IL_0 _ _ _ _ h3) ?_ ?_
  · intro n s h
    exact pk_le 128 128 (fun _ => H s.1 s.2 h) (fun z => absurd z (by omega))
  · intro n x s hx h hw
    have hb : rc_n (rc_w a5) (x + 1) ≤ 8 := Nat.le_trans (rc_n_mono _ (by omega)) hP
    refine pk_le 128 x (fun z => absurd z (by omega)) (fun _ => rc_inb hx (fun g => br_f (by decide) ?_) (fun g => br_t rfl (nm_r (nI_1 x) (hw s (rc_IL_f g h)))))
    have ep := rc_n_t g
    have hq := rc_IL_t g rfl (by omega) h
    have ei : ((8 : Int32) * nI k) + nI (rc_n (rc_w a5) x) = nI (8 * k + rc_n (rc_w a5) x) := rc_m8 k _
    rw [ck, h.2.2.1, ei, nI_clamp (show 8 * k + rc_n (rc_w a5) x < 2 ^ 31 by omega), nI_1]
    exact ⟨pk_in k 12 hk, pk_in (8 * k + rc_n (rc_w a5) x) 96 (by omega), nm_e ⟨pk_in k 12 hk, pk_in k 12 hk, nm_e (nm_r (nI_1 x) (hw _ hq))⟩⟩
end
/-! maps -/
section
theorem rc_s210 {post : St2 → Prop} {t : Int32} {a1 a2 a3 a4 a5 a6 a7 : Nat → Int32} {k : Nat} (hk : k < 12)
    (H : ∀ b4, (∀ j, j ≠ k → ∀ i, i < 8 → b4 (8 * j + i) = a4 (8 * j + i)) → (∀ w, w < 4 → b4 (8 * k + w) = a5 w) → post (t, a1, a2, a3, b4, a5, a6, a7)) : ∃ n, wX_save_210 post (nI k) t n 0 a1 a2 a3 a4 a5 a6 a7 := by
  refine pk_loop (fun n i s => wX_save_210 post (nI k) t n (nI i) a1 a2 a3 s a5 a6 a7) (fun m s => (∀ j, j ≠ k → ∀ i, i < 8 → s (8 * j + i) = a4 (8 * j + i)) ∧ (∀ w, w < m → s (8 * k + w) = a5 w)) 4 0 a4 (by omega) ⟨fun _ _ _ _ => rfl, fun w hw => absurd hw (Nat.not_lt_zero w)⟩ ?_ ?_
  · intro n s h
    exact pk_le 4 4 (fun _ => H s h.1 h.2) (fun z => absurd z (by omega))
  · intro n i s hi h hw
    refine pk_le 4 i (fun z => absurd z (by omega)) (fun _ => ?_)
    have ei : ((8 : Int32) * nI k) + nI i = nI (8 * k + i) := rc_m8 k i
    rw [ei, nI_clamp (show 8 * k + i < 2 ^ 31 by omega), nI_clamp (show i < 2 ^ 31 by omega)]
    refine ⟨pk_in i 8 (by omega), pk_in (8 * k + i) 96 (by omega), nm_e (nm_r (nI_1 i) (hw _ ⟨fun j hj l hl => ?_, fun w hw2 => ?_⟩))⟩
    · rw [pk_un (by omega)]
      exact h.1 j hj l hl
    · by_cases z : w = i
      · rw [z, pk_us]
      · rw [pk_un (by omega)]
        exact h.2 w (by omega)
/-- save: the chunk holds the buffer's bits -/
theorem rc_save {post : St2 → Prop} {t : Int32} {a1 a2 a3 a4 a5 a6 a7 : Nat → Int32} {k : Nat} (hk : k < 12)
    (H : ∀ b1 b2 b3 b4, (∀ j, j ≠ k → b1 j = a1 j ∧ b2 j = a2 j ∧ b3 j = a3 j ∧ ∀ i, i < 8 → b4 (8 * j + i) = a4 (8 * j + i)) → rc_R b1 b3 b4 k (rc_w a5) → b2 k = nI (rc_n (rc_w a5) 128) → post (t, b1, b2, b3, b4, a5, a6, a7)) : wpX_save post (t, a1, a2, a3, a4, a5, a6, a7) (nI k) := by
  have ck : (nI k).toNatClampNeg = k := nI_clamp (by omega)
  have lN : rc_n (rc_w a5) 128 ≤ 128 := rc_n_le _ _
  have lP : rc_n (rc_st (rc_w a5)) 128 ≤ 128 := rc_n_le _ _
  have h116 : wX_save_116 post (nI k) (nI (rc_n (rc_w a5) 128)) t a1 (upd a2 k (nI (rc_n (rc_w a5) 128))) a3 a4 a5 a6 a7 := by
    unfold wX_save_116
    rw [ck]
    refine pk_lt 8 (rc_n (rc_w a5) 128) (fun _ => ⟨pk_in k 12 hk, nm_e ⟨pk_in k 12 hk, nm_e (rc_s210 hk (fun b4 g1 g2 => H _ _ _ _ (fun j hj => ⟨pk_un hj, pk_un hj, pk_un hj, g1 j hj⟩) (Or.inr (Or.inr ⟨pk_us, fun x hx => ?_⟩)) pk_us))⟩⟩) (fun g8 => ⟨pk_in k 12 hk, nm_e ⟨pk_in k 12 hk, nm_e (rc_s139 hk pk_us g8 (fun b3 b4 g => ?_))⟩⟩)
    · unfold rc_w
      dsimp only
      rw [g2 _ (by omega)]
    · obtain ⟨q1, q2, q3, D, q4, q5⟩ := g
      exact H _ _ _ _ (fun j hj => ⟨pk_un hj, pk_un hj, (q1 j hj).trans (pk_un hj), q2 j hj⟩) (Or.inl ⟨pk_us, _, g8, q3, D, q4, q5⟩) pk_us
  refine pk_loop (σ := Unit) (fun n i _ => wX_save_10 post (nI k) t a1 a2 a3 a4 a5 a6 a7 n (nI (rc_n (rc_w a5) (32 * i))) (nI (rc_n (rc_st (rc_w a5)) (32 * i))) (rc_cy a5 i) (nI i)) (fun _ _ => True) 4 0 () (by omega) trivial ?_ ?_
  · intro n _ _
    refine pk_le 4 4 (fun _ => ?_) (fun z => absurd z (by omega))
    rw [ck]
    refine ⟨pk_in k 12 hk, nm_e (pk_lt 4 (rc_n (rc_st (rc_w a5)) 128) (fun _ => h116) (fun g4 => pk_le (rc_n (rc_w a5) 128) (2 * rc_n (rc_st (rc_w a5)) 128) (fun _ => h116) (fun _ => ⟨pk_in k 12 hk, nm_e ⟨pk_in k 12 hk, nm_e (rc_sruns hk pk_us g4 (fun b3 b4 g => ?_))⟩⟩) (hy := pk_mul 2 _)))⟩
    obtain ⟨q1, q2, q3, F, T, q4, q5, _⟩ := g
    exact H _ _ _ _ (fun j hj => ⟨pk_un hj, pk_un hj, (q1 j hj).trans (pk_un hj), q2 j hj⟩) (Or.inr (Or.inl ⟨pk_us, _, g4, q3, F, T, q4, q5⟩)) pk_us
  · intro n i _ hi _ hw
    refine pk_le 4 i (fun z => absurd z (by omega)) (fun _ => ?_)
    rw [nI_clamp (show i < 2 ^ 31 by omega)]
    refine ⟨pk_in i 8 (by omega), rc_ones _ (nm_r (e' := nI (rc_n (rc_w a5) (32 * (i + 1)))) ?_ ⟨pk_in i 8 (by omega), pk_in i 8 (by omega), rc_ones _ (nm_r (e' := nI (rc_n (rc_st (rc_w a5)) (32 * (i + 1)))) ?_ ⟨pk_in i 8 (by omega), nm_r (e' := rc_cy a5 (i + 1)) rfl (nm_r (nI_1 i) (hw () trivial))⟩)⟩)⟩
    · rw [nI_add, rc_wcnt]
    · rw [nI_add, rc_piece]
end
end
section
/-! set s holds g -/
section
def rc_S (s : Nat) (g : Nat → Bool) (a1 a2 a3 a4 : Nat → Int32) : Prop :=
  ∀ j, j < 4 → rc_R a1 a3 a4 (4 * s + j) (fun x => g (128 * j + x)) ∧ a2 (4 * s + j) = nI (rc_n (fun x => g (128 * j + x)) 128)
theorem rc_S_0 (s : Nat) : rc_S s (fun _ => false) (fun _ => 0) (fun _ => 0) (fun _ => 0) (fun _ => 0) := by
  intro j hj
  refine ⟨Or.inl ⟨rfl, 0, by omega, rfl, fun _ => 0, fun i hi => absurd hi (Nat.not_lt_zero i), fun x _ => ⟨fun z => absurd (show false = true from z) (by decide), fun ⟨i, hi, _⟩ => absurd hi (Nat.not_lt_zero i)⟩⟩, ?_⟩
  rw [rc_n_none]
  rfl
theorem rc_S_ext {s : Nat} {g g' : Nat → Bool} {a1 a2 a3 a4 : Nat → Int32} (h : rc_S s g a1 a2 a3 a4) (hg : ∀ x, x < 512 → g' x = g x) : rc_S s g' a1 a2 a3 a4 := by
  intro j hj
  refine ⟨rc_R_ext (h j hj).1 rfl rfl (fun _ _ => rfl) (fun x hx => hg _ (by omega)), ?_⟩
  rw [(h j hj).2]
  congr 1
  exact rc_n_ext 128 (fun x hx => (hg _ (by omega)).symm)
theorem rc_S_put {s c : Nat} {g g' f : Nat → Bool} {a1 a2 a3 a4 b1 b2 b3 b4 : Nat → Int32} (h : rc_S s g a1 a2 a3 a4)
    (fr : ∀ j, j ≠ 4 * s + c → b1 j = a1 j ∧ b2 j = a2 j ∧ b3 j = a3 j ∧ ∀ i, i < 8 → b4 (8 * j + i) = a4 (8 * j + i)) (hR : rc_R b1 b3 b4 (4 * s + c) f) (h2 : b2 (4 * s + c) = nI (rc_n f 128))
    (hf : ∀ x, x < 128 → g' (128 * c + x) = f x) (ho : ∀ j, j < 4 → j ≠ c → ∀ x, x < 128 → g' (128 * j + x) = g (128 * j + x)) : rc_S s g' b1 b2 b3 b4 := by
  intro j hj
  by_cases z : j = c
  · subst z
    refine ⟨rc_R_ext hR rfl rfl (fun _ _ => rfl) hf, ?_⟩
    rw [h2]
    congr 1
    exact rc_n_ext 128 (fun x hx => (hf x hx).symm)
  · obtain ⟨q1, q2, q3, q4⟩ := fr (4 * s + j) (by omega)
    refine ⟨rc_R_ext (h j hj).1 q1 q3 q4 (ho j hj z), ?_⟩
    rw [q2, (h j hj).2]
    congr 1
    exact rc_n_ext 128 (fun x hx => (ho j hj z x hx).symm)
theorem rc_total {post : Int32 → Prop} {t : Int32} {a1 a2 a3 a4 a5 a6 a7 : Nat → Int32} {s : Nat} {g : Nat → Bool} (hs : s < 3) (h : rc_S s g a1 a2 a3 a4) (H : post (nI (rc_n g 512))) : wpX_total post (t, a1, a2, a3, a4, a5, a6, a7) (nI s) := by
  refine pk_loop (σ := Unit) (fun n i _ => wX_total_4 post (nI s) t a1 a2 a3 a4 a5 a6 a7 n (nI (rc_n g (128 * i))) (nI i)) (fun _ _ => True) 4 0 () (by omega) trivial ?_ ?_
  · intro n _ _
    exact pk_le 4 4 (fun _ => H) (fun z => absurd z (by omega))
  · intro n i _ hi _ hw
    refine pk_le 4 i (fun z => absurd z (by omega)) (fun _ => ⟨pk_in (4 * s + i) 12 (by omega) (rc_m4 s i), nm_r (e' := nI (rc_n g (128 * (i + 1)))) ?_ (nm_r (nI_1 i) (hw () trivial))⟩)
    rw [pk_cl (4 * s + i) (rc_m4 s i), (h i hi).2, nI_add, Nat.mul_succ, rc_n_add]
end
/-! isSet, isNumber, isRange -/
section
theorem rc_isS_t {post : Int32 → Prop} {s : Nat} (hs : s < 3) (H : post 1) : wpX_isSet post () (nI s) :=
  pk_lt s 0 (fun z => absurd z (by omega)) (fun _ => pk_lt 2 s (fun z => absurd z (by omega)) (fun _ => H))
theorem rc_isS_f {post : Int32 → Prop} {p : Int32} (h : ¬ (¬ p < 0 ∧ ¬ 2 < p)) (H : post 0) : wpX_isSet post () p :=
  ⟨fun _ => H, fun z => ⟨fun _ => H, fun z2 => absurd ⟨z, z2⟩ h⟩⟩
theorem rc_isN_t {post : Int32 → Prop} {s : Nat} (hs : s < 512) (H : post 1) : wpX_isNumber post () (nI s) :=
  pk_lt s 0 (fun z => absurd z (by omega)) (fun _ => pk_lt 511 s (fun z => absurd z (by omega)) (fun _ => H))
theorem rc_isN_f {post : Int32 → Prop} {p : Int32} (h : ¬ (¬ p < 0 ∧ ¬ 511 < p)) (H : post 0) : wpX_isNumber post () p :=
  ⟨fun _ => H, fun z => ⟨fun _ => H, fun z2 => absurd ⟨z, z2⟩ h⟩⟩
theorem rc_isR_t {post : Int32 → Prop} {f l : Nat} (hf : f ≤ l) (hl : l < 512) (H : post 1) : wpX_isRange post () (nI f) (nI l) :=
  pk_lt f 0 (fun z => absurd z (by omega)) (fun _ => pk_lt l f (fun z => absurd z (by omega)) (fun _ => pk_lt 511 l (fun z => absurd z (by omega)) (fun _ => H)))
theorem rc_isR_f {post : Int32 → Prop} {p q : Int32} (h : ¬ (¬ p < 0 ∧ ¬ q < p ∧ ¬ 511 < q)) (H : post 0) : wpX_isRange post () p q :=
  ⟨fun _ => H, fun z => ⟨fun _ => H, fun z2 => ⟨fun _ => H, fun z3 => absurd ⟨z, z2, z3⟩ h⟩⟩⟩
end
/-! change (how = 0) -/
section
theorem rc_ch87 {post : St2 → Prop} {t : Int32} {J : Int32 → Int32 → (Nat → Int32) → (Nat → Int32) → (Nat → Int32) → (Nat → Int32) → (Nat → Int32) → (Nat → Int32) → (Nat → Int32) → Prop} {a1 a2 a3 a4 a5 a6 a7 : Nat → Int32} {x2 x3 : Int32} {s c u v : Nat} (hs : s < 3) (hc : c < 4) (huv : u ≤ v) (hv : v < 128)
    (H : ∀ b b1 b2 b3 b4, (∀ x, x < 128 → rc_w b x = (rc_w a5 x || decide (u ≤ x ∧ x ≤ v))) → (∀ j, j ≠ 4 * s + c → b1 j = a1 j ∧ b2 j = a2 j ∧ b3 j = a3 j ∧ ∀ i, i < 8 → b4 (8 * j + i) = a4 (8 * j + i)) → rc_R b1 b3 b4 (4 * s + c) (rc_w b) → b2 (4 * s + c) = nI (rc_n (rc_w b) 128) → J (nI (c + 1)) t b1 b2 b3 b4 b a6 a7) :
    ∃ n, wX_change_87 post J (nI s) x2 x3 0 (nI c) (nI u) (nI v) t n (nI (u / 32)) a1 a2 a3 a4 a5 a6 a7 := by
  refine pk_loop (fun n w z => wX_change_87 post J (nI s) x2 x3 0 (nI c) (nI u) (nI v) t n (nI w) a1 a2 a3 a4 z a6 a7) (fun w z => u / 32 ≤ w ∧ ∀ x, x < 128 → rc_w z x = (rc_w a5 x || decide (u ≤ x ∧ x ≤ v ∧ x / 32 < w))) (v / 32 + 1) (u / 32) a5 (by omega) ?_ ?_ ?_
  · refine ⟨by omega, fun x hx => ?_⟩
    rw [decide_eq_false (by omega), Bool.or_false]
  · intro n z h
    refine pk_lt (v / 32) (v / 32 + 1) (fun _ => ?_) (fun y => absurd y (by omega)) (hx := rc_sh5 (by omega))
    rw [rc_m4]
    refine rc_save (by omega) (fun b1 b2 b3 b4 g1 g2 g3 => nm_r (nI_1 c) (H z b1 b2 b3 b4 (fun x hx => ?_) g1 g2 g3))
    rw [h.2 x hx]
    congr 1
    exact decide_eq_decide.mpr (by omega)
  · intro n w z hw h ih
    refine pk_lt (v / 32) w (fun y => absurd y (by omega)) (fun _ => rc_mask (f := u) (t := v) (w := w) h.1 (by omega) (by omega) (fun m hm => br_t rfl ⟨pk_in w 8 (by omega), pk_in w 8 (by omega), nm_r (e' := upd z w (z w ||| m)) ?_ (nm_r (nI_1 w) (ih _ ⟨by omega, fun x hx => ?_⟩))⟩)) (hx := rc_sh5 (by omega))
    · rw [nI_clamp (show w < 2 ^ 31 by omega)]
    · have hmx := hm (x % 32) (by omega)
      rw [rc_w_or, hmx, h.2 x hx, Bool.or_assoc]
      congr 1
      apply rc_beq
      simp only [Bool.or_eq_true, Bool.and_eq_true, decide_eq_true_eq]
      omega
theorem rc_ch68 {post : St2 → Prop} {t : Int32} {J : Int32 → Int32 → (Nat → Int32) → (Nat → Int32) → (Nat → Int32) → (Nat → Int32) → (Nat → Int32) → (Nat → Int32) → (Nat → Int32) → Prop} {a1 a2 a3 a4 a5 a6 a7 : Nat → Int32} {x2 x3 : Int32} {s c u v : Nat} {f : Nat → Bool} (hs : s < 3) (hc : c < 4) (huv : u ≤ v) (hv : v < 128) (hR : rc_R a1 a3 a4 (4 * s + c) f)
    (H : ∀ b b1 b2 b3 b4, (∀ x, x < 128 → rc_w b x = (f x || decide (u ≤ x ∧ x ≤ v))) → (∀ j, j ≠ 4 * s + c → b1 j = a1 j ∧ b2 j = a2 j ∧ b3 j = a3 j ∧ ∀ i, i < 8 → b4 (8 * j + i) = a4 (8 * j + i)) → rc_R b1 b3 b4 (4 * s + c) (rc_w b) → b2 (4 * s + c) = nI (rc_n (rc_w b) 128) → J (nI (c + 1)) t b1 b2 b3 b4 b a6 a7) :
    wX_change_68 post J (nI s) x2 x3 0 (nI c) (nI u) (nI v) t a1 a2 a3 a4 a5 a6 a7 := by
  unfold wX_change_68
  rw [rc_m4]
  refine rc_load (by omega) hR (fun b hb => nm_r (rc_sh5 (by omega)) (rc_ch87 hs hc huv hv (fun d b1 b2 b3 b4 hd g1 g2 g3 => H d b1 b2 b3 b4 (fun x hx => ?_) g1 g2 g3)))
  rw [hd x hx, hb x hx]
theorem rc_change {post : St2 → Prop} {t : Int32} {a1 a2 a3 a4 a5 a6 a7 : Nat → Int32} {s f l : Nat} {g : Nat → Bool} (hs : s < 3) (hfl : f ≤ l) (hl : l < 512) (h : rc_S s g a1 a2 a3 a4)
    (H : ∀ b1 b2 b3 b4 b5, rc_S s (fun x => g x || decide (f ≤ x ∧ x ≤ l)) b1 b2 b3 b4 → post (t, b1, b2, b3, b4, b5, a6, a7)) : wpX_change post (t, a1, a2, a3, a4, a5, a6, a7) (nI s) (nI f) (nI l) 0 := by
  refine nm_r (rc_sh7 (show f < 2 ^ 31 by omega)) (pk_loop (σ := (Nat → Int32) × (Nat → Int32) × (Nat → Int32) × (Nat → Int32) × (Nat → Int32)) (fun n c z => wX_change_6 post (nI s) (nI f) (nI l) 0 n (nI c) t z.1 z.2.1 z.2.2.1 z.2.2.2.1 z.2.2.2.2 a6 a7) (fun c z => f / 128 ≤ c ∧ rc_S s (fun x => g x || decide (f ≤ x ∧ x ≤ l ∧ x / 128 < c)) z.1 z.2.1 z.2.2.1 z.2.2.2.1) (l / 128 + 1) (f / 128) (a1, a2, a3, a4, a5) (by omega) ?_ ?_ ?_)
  · refine ⟨by omega, rc_S_ext h (fun x hx => ?_)⟩
    rw [decide_eq_false (by omega), Bool.or_false]
  · intro n z h
    refine pk_lt (l / 128) (l / 128 + 1) (fun _ => H z.1 z.2.1 z.2.2.1 z.2.2.2.1 z.2.2.2.2 (rc_S_ext h.2 (fun x hx => ?_))) (fun y => absurd y (by omega)) (hx := rc_sh7 (by omega))
    congr 1
    exact decide_eq_decide.mpr (by omega)
  · intro n c z hc h ih
    have k68 : wX_change_68 post (wX_change_6 post (nI s) (nI f) (nI l) 0 n) (nI s) (nI f) (nI l) 0 (nI c) (nI (f - 128 * c)) (nI (min 127 (l - 128 * c))) t z.1 z.2.1 z.2.2.1 z.2.2.2.1 z.2.2.2.2 a6 a7 := by
      have h1 := h.1
      refine rc_ch68 hs (by omega) (by omega) (by omega) (h.2 c (by omega)).1 (fun b b1 b2 b3 b4 hb g1 g2 g3 => ih (b1, b2, b3, b4, b) ⟨by omega, rc_S_put h.2 g1 g2 g3 (fun x hx => ?_) (fun j hj hjc x hx => ?_)⟩)
      · rw [hb x hx]
        dsimp only
        rw [Bool.or_assoc]
        congr 1
        apply rc_beq
        simp only [Bool.or_eq_true, decide_eq_true_eq]
        omega
      · congr 1
        exact decide_eq_decide.mpr (by omega)
    have k37 : wX_change_37 post (wX_change_6 post (nI s) (nI f) (nI l) 0 n) (nI s) (nI f) (nI l) 0 (nI c) (nI (f - 128 * c)) t z.1 z.2.1 z.2.2.1 z.2.2.2.1 z.2.2.2.2 a6 a7 := by
      have e1 : (((128 : Int32) * nI c) + 128) - 1 = nI (128 * c + 127) := by
        have e2 : ((128 : Int32) * nI c) + 128 = nI (128 * c + 128) := rc_mi 128 c 128
        rw [e2]
        exact pk_sub (b := 1) (by omega)
      refine pk_le (128 * c + 127) l (fun y => ?_) (fun y => ?_) (hx := e1)
      · rw [show min 127 (l - 128 * c) = 127 by omega] at k68
        exact k68
      · rw [show min 127 (l - 128 * c) = l - 128 * c by omega] at k68
        have e3 : nI l - (128 * nI c) = nI (l - 128 * c) := by
          have e4 : (128 : Int32) * nI c = nI (128 * c) := pk_mul 128 c
          rw [e4]
          have := h.1
          exact pk_sub (by omega)
        rw [e3]
        exact k68
    refine pk_lt (l / 128) c (fun y => absurd y (by omega)) (fun _ => pk_le f (128 * c) (fun y => ?_) (fun y => ?_) (hy := pk_mul 128 c)) (hx := rc_sh7 (by omega))
    · rw [show f - 128 * c = 0 by omega] at k37
      exact k37
    · have e4 : (128 : Int32) * nI c = nI (128 * c) := pk_mul 128 c
      rw [e4, pk_sub (Nat.le_of_lt y)]
      exact k37
end
/-! fill, add -/
section
theorem rc_fillS {post : Int32 → St2 → Prop} {t : Int32} {a1 a2 a3 a4 a5 a6 a7 : Nat → Int32} {p q r : Int32} (h : ¬ (¬ p < 0 ∧ ¬ 2 < p)) (H : post (-1) (t, a1, a2, a3, a4, a5, a6, a7)) : wpX_fill post (t, a1, a2, a3, a4, a5, a6, a7) p q r := by
  unfold wpX_fill
  exact rc_isS_f h (br_t rfl H)
theorem rc_fillR {post : Int32 → St2 → Prop} {t : Int32} {a1 a2 a3 a4 a5 a6 a7 : Nat → Int32} {s : Nat} {q r : Int32} (hs : s < 3) (h : ¬ (¬ q < 0 ∧ ¬ r < q ∧ ¬ 511 < r)) (H : post (-2) (t, a1, a2, a3, a4, a5, a6, a7)) : wpX_fill post (t, a1, a2, a3, a4, a5, a6, a7) (nI s) q r := by
  unfold wpX_fill
  exact rc_isS_t hs (br_f (by decide) (rc_isR_f h (br_t rfl H)))
theorem rc_fillT {post : Int32 → St2 → Prop} {t : Int32} {a1 a2 a3 a4 a5 a6 a7 : Nat → Int32} {s f l : Nat} {g : Nat → Bool} (hs : s < 3) (hfl : f ≤ l) (hl : l < 512) (h : rc_S s g a1 a2 a3 a4)
    (H : ∀ b1 b2 b3 b4 b5, rc_S s (fun x => g x || decide (f ≤ x ∧ x ≤ l)) b1 b2 b3 b4 → post (nI (rc_n (fun x => g x || decide (f ≤ x ∧ x ≤ l)) 512) - nI (rc_n g 512)) (t, b1, b2, b3, b4, b5, a6, a7)) : wpX_fill post (t, a1, a2, a3, a4, a5, a6, a7) (nI s) (nI f) (nI l) := by
  unfold wpX_fill
  exact rc_isS_t hs (br_f (by decide) (rc_isR_t hfl hl (br_f (by decide) (rc_total hs h (rc_change hs hfl hl h (fun b1 b2 b3 b4 b5 hb => rc_total hs hb (H b1 b2 b3 b4 b5 hb)))))))
theorem rc_addS {post : Int32 → St2 → Prop} {t : Int32} {a1 a2 a3 a4 a5 a6 a7 : Nat → Int32} {p q : Int32} (h : ¬ (¬ p < 0 ∧ ¬ 2 < p)) (H : post (-1) (t, a1, a2, a3, a4, a5, a6, a7)) : wpX_add post (t, a1, a2, a3, a4, a5, a6, a7) p q := by
  unfold wpX_add
  exact rc_isS_f h (br_t rfl H)
theorem rc_addN {post : Int32 → St2 → Prop} {t : Int32} {a1 a2 a3 a4 a5 a6 a7 : Nat → Int32} {s : Nat} {q : Int32} (hs : s < 3) (h : ¬ (¬ q < 0 ∧ ¬ 511 < q)) (H : post (-2) (t, a1, a2, a3, a4, a5, a6, a7)) : wpX_add post (t, a1, a2, a3, a4, a5, a6, a7) (nI s) q := by
  unfold wpX_add
  exact rc_isS_t hs (br_f (by decide) (rc_isN_f h (br_t rfl H)))
theorem rc_addT {post : Int32 → St2 → Prop} {t : Int32} {a1 a2 a3 a4 a5 a6 a7 : Nat → Int32} {s f : Nat} {g : Nat → Bool} (hs : s < 3) (hl : f < 512) (h : rc_S s g a1 a2 a3 a4)
    (H : ∀ b1 b2 b3 b4 b5, rc_S s (fun x => g x || decide (f ≤ x ∧ x ≤ f)) b1 b2 b3 b4 → post (nI (rc_n (fun x => g x || decide (f ≤ x ∧ x ≤ f)) 512) - nI (rc_n g 512)) (t, b1, b2, b3, b4, b5, a6, a7)) : wpX_add post (t, a1, a2, a3, a4, a5, a6, a7) (nI s) (nI f) := by
  unfold wpX_add
  exact rc_isS_t hs (br_f (by decide) (rc_isN_t hl (br_f (by decide) (rc_fillT hs (Nat.le_refl f) hl h H))))
end
end
section
/-! gather, runs -/
section
theorem rc_ga19 {post : St2 → Prop} {t : Int32} {J : Int32 → Int32 → (Nat → Int32) → (Nat → Int32) → (Nat → Int32) → (Nat → Int32) → (Nat → Int32) → (Nat → Int32) → (Nat → Int32) → Prop} {a1 a2 a3 a4 a5 a6 a7 : Nat → Int32} {x1 : Int32} {c : Nat} (hc : c < 4)
    (H : ∀ b, (∀ w, w < 4 → b (4 * c + w) = a5 w) → (∀ j, ¬ j / 4 = c → b j = a6 j) → J (nI (c + 1)) t a1 a2 a3 a4 a5 b a7) : ∃ n, wX_gather_19 post J x1 (nI c) t n 0 a1 a2 a3 a4 a5 a6 a7 := by
  refine pk_loop (fun n i z => wX_gather_19 post J x1 (nI c) t n (nI i) a1 a2 a3 a4 a5 z a7) (fun i z => (∀ w, w < i → z (4 * c + w) = a5 w) ∧ (∀ j, ¬ j / 4 = c → z j = a6 j)) 4 0 a6 (by omega) ⟨fun w hw => absurd hw (Nat.not_lt_zero w), fun _ _ => rfl⟩ ?_ ?_
  · intro n z h
    exact pk_le 4 4 (fun _ => nm_r (nI_1 c) (H z h.1 h.2)) (fun y => absurd y (by omega))
  · intro n i z hi h hw
    refine pk_le 4 i (fun y => absurd y (by omega)) (fun _ => ?_)
    rw [rc_m4, nI_clamp (show 4 * c + i < 2 ^ 31 by omega), nI_clamp (show i < 2 ^ 31 by omega)]
    refine ⟨pk_in i 8 (by omega), pk_in (4 * c + i) 16 (by omega), nm_e (nm_r (nI_1 i) (hw _ ⟨fun w hw2 => ?_, fun j hj => ?_⟩))⟩
    · by_cases y : w = i
      · rw [y, pk_us]
      · rw [pk_un (by omega)]
        exact h.1 w (by omega)
    · rw [pk_un (by omega)]
      exact h.2 j hj
theorem rc_gather {post : St2 → Prop} {t : Int32} {a1 a2 a3 a4 a5 a6 a7 : Nat → Int32} {s : Nat} {g : Nat → Bool} (hs : s < 3) (h : rc_S s g a1 a2 a3 a4)
    (H : ∀ b5 b6, (∀ x, x < 512 → rc_w b6 x = g x) → post (t, a1, a2, a3, a4, b5, b6, a7)) : wpX_gather post (t, a1, a2, a3, a4, a5, a6, a7) (nI s) := by
  refine pk_loop (σ := (Nat → Int32) × (Nat → Int32)) (fun n c z => wX_gather_2 post (nI s) n (nI c) t a1 a2 a3 a4 z.1 z.2 a7) (fun c z => ∀ x, x < 128 * c → rc_w z.2 x = g x) 4 0 (a5, a6) (by omega) (fun x hx => absurd hx (by omega)) ?_ ?_
  · intro n z hz
    exact pk_le 4 4 (fun _ => H z.1 z.2 hz) (fun y => absurd y (by omega))
  · intro n c z hc hz hw
    refine pk_le 4 c (fun y => absurd y (by omega)) (fun _ => ?_)
    rw [rc_m4]
    refine rc_load (by omega) (h c hc).1 (fun b hb => rc_ga19 hc (fun d h1 h2 => hw (b, d) (fun x hx => ?_)))
    show rc_w d x = g x
    by_cases y : x / 128 = c
    · have e := hb (x - 128 * c) (by omega)
      rw [show 128 * c + (x - 128 * c) = x by omega] at e
      rw [← e]
      unfold rc_w
      rw [show x / 32 = 4 * c + (x / 32 - 4 * c) by omega, h1 _ (by omega), show (x - 128 * c) / 32 = x / 32 - 4 * c by omega, show (x - 128 * c) % 32 = x % 32 by omega]
    · rw [← hz x (by omega)]
      unfold rc_w
      rw [h2 (x / 32) (by omega)]
theorem rc_runsS {post : Int32 → St2 → Prop} {t : Int32} {a1 a2 a3 a4 a5 a6 a7 : Nat → Int32} {p : Int32} (h : ¬ (¬ p < 0 ∧ ¬ 2 < p)) (H : post (-1) (t, a1, a2, a3, a4, a5, a6, a7)) : wpX_runs post (t, a1, a2, a3, a4, a5, a6, a7) p := by
  unfold wpX_runs
  exact rc_isS_f h (br_t rfl H)
theorem rc_ru21 {post : Int32 → St2 → Prop} {t : Int32} {a1 a2 a3 a4 a5 a6 a7 : Nat → Int32} (H : post (nI (rc_n (rc_st (rc_w a6)) 512)) (t, a1, a2, a3, a4, a5, a6, a7)) : ∃ n, wX_runs_21 post t a1 a2 a3 a4 a5 a6 a7 n 0 0 0 := by
  refine pk_loop (σ := Unit) (fun n i _ => wX_runs_21 post t a1 a2 a3 a4 a5 a6 a7 n (nI (rc_n (rc_st (rc_w a6)) (32 * i))) (rc_cy a6 i) (nI i)) (fun _ _ => True) 16 0 () (by omega) trivial ?_ ?_
  · intro n _ _
    exact pk_le 16 16 (fun _ => H) (fun z => absurd z (by omega))
  · intro n i _ hi _ hw
    refine pk_le 16 i (fun z => absurd z (by omega)) (fun _ => ?_)
    rw [nI_clamp (show i < 2 ^ 31 by omega)]
    refine ⟨pk_in i 16 (by omega), pk_in i 16 (by omega), rc_ones _ (nm_r (e' := nI (rc_n (rc_st (rc_w a6)) (32 * (i + 1)))) ?_ ⟨pk_in i 16 (by omega), nm_r (e' := rc_cy a6 (i + 1)) rfl (nm_r (nI_1 i) (hw () trivial))⟩)⟩
    rw [nI_add, rc_piece]
theorem rc_runsT {post : Int32 → St2 → Prop} {t : Int32} {a1 a2 a3 a4 a5 a6 a7 : Nat → Int32} {s : Nat} {g : Nat → Bool} (hs : s < 3) (h : rc_S s g a1 a2 a3 a4)
    (H : ∀ b5 b6, post (nI (rc_n (rc_st g) 512)) (t, a1, a2, a3, a4, b5, b6, a7)) : wpX_runs post (t, a1, a2, a3, a4, a5, a6, a7) (nI s) := by
  unfold wpX_runs
  refine rc_isS_t hs (br_f (by decide) (rc_gather hs h (fun b5 b6 hb => rc_ru21 ?_)))
  have e : rc_n (rc_st (rc_w b6)) 512 = rc_n (rc_st g) 512 := by
    refine rc_n_ext 512 (fun x hx => ?_)
    unfold rc_st
    rw [hb x hx, hb (x - 1) (by omega)]
  rw [e]
  exact H b5 b6
end
/-! wordAt -/
section
theorem rc_wa1 : ∀ m, m < 1536 → (nI m - 512) >>> ((5 : Int32) &&& 31) = nI (m / 32) - 16 ∧ (nI m - 512) &&& (31 : Int32) = nI (m % 32) := by decide +kernel
theorem rc_wa2 : ∀ q, q < 48 → (nI q - 16 < (-1) ↔ q < 15) ∧ (15 ≤ nI q - 16 ↔ 31 ≤ q) ∧ (nI q - 16 < 0 ↔ q < 16) ∧ (16 ≤ nI q - 16 ↔ 32 ≤ q) ∧ (15 ≤ q → nI q - 16 + 1 = nI (q - 15)) ∧ (16 ≤ q → nI q - 16 = nI (q - 16)) := by decide +kernel
theorem rc_w54 {post : Int32 → Prop} {t : Int32} {a1 a2 a3 a4 a5 a6 a7 : Nat → Int32} {lo hi : Int32} {o : Nat} (ho : o < 32) (H : ∀ v, (∀ i, i < 32 → rb_t v i = if o + i < 32 then rb_t lo (o + i) else rb_t hi (o + i - 32)) → post v) : wX_wordAt_54 post (nI o) lo hi t a1 a2 a3 a4 a5 a6 a7 := by
  refine pk_eq o 0 (fun z => H lo (fun i hi => ?_)) (fun z => H _ (fun i hi => ?_))
  · rw [z, Nat.zero_add, if_pos hi]
  · have e : (32 : Int32) - nI o = nI (32 - o) := pk_sub (a := 32) (by omega)
    rw [rb_or, rb_ushr o ho, e, rb_shl (32 - o) (by omega) _ hi]
    by_cases y : o + i < 32
    · rw [if_pos y, decide_eq_false (by omega), Bool.false_and, Bool.or_false]
    · rw [if_neg y, rb_big (by omega), decide_eq_true (by omega), Bool.true_and, Bool.false_or, show i - (32 - o) = o + i - 32 by omega]
theorem rc_w29 {post : Int32 → Prop} {t : Int32} {a1 a2 a3 a4 a5 a6 a7 : Nat → Int32} {lo : Int32} {q o : Nat} (hq : q < 48) (ho : o < 32)
    (H : ∀ v, (∀ i, i < 32 → rb_t v i = if o + i < 32 then rb_t lo (o + i) else (decide (15 ≤ q ∧ q < 31) && rb_t (a6 (q - 15)) (o + i - 32))) → post v) : wX_wordAt_29 post (nI q - 16) (nI o) lo t a1 a2 a3 a4 a5 a6 a7 := by
  obtain ⟨c1, c2, _, _, c5, _⟩ := rc_wa2 q hq
  have h0 : ¬ (15 ≤ q ∧ q < 31) → wX_wordAt_53 post (nI o) lo t a1 a2 a3 a4 a5 a6 a7 := by
    intro hn
    refine rc_w54 ho (fun v hv => H v (fun i hi => ?_))
    rw [hv i hi, rb_0, decide_eq_false hn, Bool.false_and]
  refine ek_if c1 (fun z => h0 (by omega)) (fun z => ek_if c2 (fun y => h0 (by omega)) (fun y => ?_))
  have e := c5 (by omega)
  rw [e, nI_clamp (show q - 15 < 2 ^ 31 by omega)]
  refine ⟨pk_in (q - 15) 16 (by omega), rc_w54 ho (fun v hv => H v (fun i hi => ?_))⟩
  rw [hv i hi, decide_eq_true (show 15 ≤ q ∧ q < 31 by omega), Bool.true_and]
theorem rc_word {post : Int32 → Prop} {t : Int32} {a1 a2 a3 a4 a5 a6 a7 : Nat → Int32} {m : Nat} (hm : m < 1536)
    (H : ∀ v, (∀ i, i < 32 → rb_t v i = (decide (512 ≤ m + i ∧ m + i < 1024) && rc_w a6 (m + i - 512))) → post v) : wpX_wordAt post (t, a1, a2, a3, a4, a5, a6, a7) (nI m - 512) := by
  obtain ⟨d1, d2⟩ := rc_wa1 m hm
  obtain ⟨_, _, c3, c4, _, c6⟩ := rc_wa2 (m / 32) (by omega)
  have K : ∀ lo : Int32, (∀ i, i < 32 → rb_t lo i = (decide (16 ≤ m / 32 ∧ m / 32 < 32) && rb_t (a6 (m / 32 - 16)) i)) → wX_wordAt_29 post (nI (m / 32) - 16) (nI (m % 32)) lo t a1 a2 a3 a4 a5 a6 a7 := by
    intro lo hlo
    refine rc_w29 (by omega) (by omega) (fun v hv => H v (fun i hi => ?_))
    rw [hv i hi]
    by_cases y : m % 32 + i < 32
    · rw [if_pos y, hlo _ y]
      by_cases z : 16 ≤ m / 32 ∧ m / 32 < 32
      · rw [decide_eq_true z, decide_eq_true (show 512 ≤ m + i ∧ m + i < 1024 by omega), Bool.true_and, Bool.true_and]
        unfold rc_w
        rw [show (m + i - 512) / 32 = m / 32 - 16 by omega, show (m + i - 512) % 32 = m % 32 + i by omega]
      · rw [decide_eq_false z, decide_eq_false (show ¬ (512 ≤ m + i ∧ m + i < 1024) by omega), Bool.false_and, Bool.false_and]
    · rw [if_neg y]
      by_cases z : 15 ≤ m / 32 ∧ m / 32 < 31
      · rw [decide_eq_true z, decide_eq_true (show 512 ≤ m + i ∧ m + i < 1024 by omega), Bool.true_and, Bool.true_and]
        unfold rc_w
        rw [show (m + i - 512) / 32 = m / 32 - 15 by omega, show (m + i - 512) % 32 = m % 32 + i - 32 by omega]
      · rw [decide_eq_false z, decide_eq_false (show ¬ (512 ≤ m + i ∧ m + i < 1024) by omega), Bool.false_and, Bool.false_and]
  have K0 : ¬ (16 ≤ m / 32 ∧ m / 32 < 32) → wX_wordAt_28 post (nI (m / 32) - 16) (nI (m % 32)) t a1 a2 a3 a4 a5 a6 a7 := by
    intro hn
    refine K 0 (fun i hi => ?_)
    rw [rb_0, decide_eq_false hn, Bool.false_and]
  unfold wpX_wordAt
  refine nm_r d1 (nm_r d2 (ek_if c3 (fun z => K0 (by omega)) (fun z => ek_if c4 (fun y => K0 (by omega)) (fun y => ?_))))
  have e := c6 (by omega)
  have e2 : (nI (m / 32) - 16).toNatClampNeg = m / 32 - 16 := by rw [e, nI_clamp (by omega)]
  rw [e2]
  refine ⟨pk_in (m / 32 - 16) 16 (by omega) e, K _ (fun i hi => ?_)⟩
  rw [decide_eq_true (show 16 ≤ m / 32 ∧ m / 32 < 32 by omega), Bool.true_and]
end
/-! shift -/
section
def rc_sh (b : Nat) (g : Nat → Bool) (x : Nat) : Bool := decide (b ≤ x + 511 ∧ x + 511 < b + 512) && g (x + 511 - b)
theorem rc_by (b W : Nat) (hb : b ≤ 1022) : ((32 : Int32) * nI W) - (nI b - 511) = nI (32 * W + 1023 - b) - 512 := by
  have e1 : nI (32 * W + 1023 - b) = nI (32 * W + 1023) - nI b := (pk_sub (by omega)).symm
  have e2 : nI (32 * W + 1023) = (32 : Int32) * nI W + 1023 := (rc_mi 32 W 1023).symm
  rw [e1, e2]
  generalize nI W = x
  generalize nI b = y
  grind
theorem rc_sh41 {post : Int32 → St2 → Prop} {t : Int32} {J : Int32 → Int32 → (Nat → Int32) → (Nat → Int32) → (Nat → Int32) → (Nat → Int32) → (Nat → Int32) → (Nat → Int32) → (Nat → Int32) → Prop} {a1 a2 a3 a4 a5 a6 a7 : Nat → Int32} {s c b : Nat} (hs : s < 3) (hc : c < 4) (hb : b ≤ 1022)
    (H : ∀ d b1 b2 b3 b4, (∀ x, x < 128 → rc_w d x = rc_sh b (rc_w a6) (128 * c + x)) → (∀ j, j ≠ 4 * s + c → b1 j = a1 j ∧ b2 j = a2 j ∧ b3 j = a3 j ∧ ∀ i, i < 8 → b4 (8 * j + i) = a4 (8 * j + i)) → rc_R b1 b3 b4 (4 * s + c) (rc_w d) → b2 (4 * s + c) = nI (rc_n (rc_w d) 128) → J (nI (c + 1)) t b1 b2 b3 b4 d a6 a7) :
    ∃ n, wX_shift_41 post J (nI s) (nI b - 511) (nI c) t n 0 a1 a2 a3 a4 a5 a6 a7 := by
  refine pk_loop (fun n w z => wX_shift_41 post J (nI s) (nI b - 511) (nI c) t n (nI w) a1 a2 a3 a4 z a6 a7) (fun w z => ∀ x, x < 32 * w → rc_w z x = rc_sh b (rc_w a6) (128 * c + x)) 4 0 a5 (by omega) (fun x hx => absurd hx (by omega)) ?_ ?_
  · intro n z h
    refine pk_le 4 4 (fun _ => ?_) (fun y => absurd y (by omega))
    rw [rc_m4]
    exact rc_save (by omega) (fun b1 b2 b3 b4 g1 g2 g3 => nm_r (nI_1 c) (H z b1 b2 b3 b4 h g1 g2 g3))
  · intro n w z hw h ih
    refine pk_le 4 w (fun y => absurd y (by omega)) (fun _ => ?_)
    rw [rc_m4, rc_by b _ hb]
    refine rc_word (by omega) (fun v hv => ⟨pk_in w 8 (by omega), nm_r (e' := upd z w v) ?_ (nm_r (nI_1 w) (ih _ (fun x hx => ?_)))⟩)
    · rw [nI_clamp (show w < 2 ^ 31 by omega)]
    · rw [rc_w_put]
      by_cases y : x / 32 = w
      · rw [if_pos y, hv _ (by omega)]
        unfold rc_sh
        rw [show 32 * (4 * c + w) + 1023 - b + x % 32 - 512 = 128 * c + x + 511 - b by omega]
        congr 1
        exact decide_eq_decide.mpr (by omega)
      · rw [if_neg y]
        exact h x (by omega)
theorem rc_shiftS {post : Int32 → St2 → Prop} {t : Int32} {a1 a2 a3 a4 a5 a6 a7 : Nat → Int32} {p q : Int32} (h : ¬ (¬ p < 0 ∧ ¬ 2 < p)) (H : post (-1) (t, a1, a2, a3, a4, a5, a6, a7)) : wpX_shift post (t, a1, a2, a3, a4, a5, a6, a7) p q := by
  unfold wpX_shift
  exact rc_isS_f h (br_t rfl H)
theorem rc_shiftB {post : Int32 → St2 → Prop} {t : Int32} {a1 a2 a3 a4 a5 a6 a7 : Nat → Int32} {s : Nat} {q : Int32} (hs : s < 3) (h : ¬ (¬ q < (-511) ∧ q ≤ 511)) (H : post (-2) (t, a1, a2, a3, a4, a5, a6, a7)) : wpX_shift post (t, a1, a2, a3, a4, a5, a6, a7) (nI s) q := by
  unfold wpX_shift
  exact rc_isS_t hs (br_f (by decide) ⟨fun _ => H, fun z => ⟨fun y => absurd ⟨z, y⟩ h, fun _ => H⟩⟩)
theorem rc_shiftT {post : Int32 → St2 → Prop} {t : Int32} {a1 a2 a3 a4 a5 a6 a7 : Nat → Int32} {s b : Nat} {g : Nat → Bool} (hs : s < 3) (hb : b ≤ 1022) (n1 : ¬ nI b - 511 < (-511)) (n2 : nI b - 511 ≤ 511) (h : rc_S s g a1 a2 a3 a4)
    (H : ∀ b1 b2 b3 b4 b5 b6, rc_S s (rc_sh b g) b1 b2 b3 b4 → post (nI (rc_n (rc_sh b g) 512)) (t, b1, b2, b3, b4, b5, b6, a7)) : wpX_shift post (t, a1, a2, a3, a4, a5, a6, a7) (nI s) (nI b - 511) := by
  unfold wpX_shift
  refine rc_isS_t hs (br_f (by decide) (br_f n1 (br_t n2 (rc_gather hs h (fun d5 d6 hd => ?_)))))
  have hg : ∀ x, x < 512 → rc_sh b (rc_w d6) x = rc_sh b g x := by
    intro x hx
    unfold rc_sh
    by_cases y : b ≤ x + 511 ∧ x + 511 < b + 512
    · rw [hd _ (by omega)]
    · rw [decide_eq_false y, Bool.false_and, Bool.false_and]
  refine pk_loop (σ := (Nat → Int32) × (Nat → Int32) × (Nat → Int32) × (Nat → Int32) × (Nat → Int32)) (fun n c z => wX_shift_33 post (nI s) (nI b - 511) n (nI c) t z.1 z.2.1 z.2.2.1 z.2.2.2.1 z.2.2.2.2 d6 a7) (fun c z => rc_S s (fun x => if x < 128 * c then rc_sh b g x else g x) z.1 z.2.1 z.2.2.1 z.2.2.2.1) 4 0 (a1, a2, a3, a4, d5) (by omega) ?_ ?_ ?_
  · exact rc_S_ext h (fun x hx => if_neg (by omega))
  · intro n z hz
    have hz2 : rc_S s (rc_sh b g) z.1 z.2.1 z.2.2.1 z.2.2.2.1 := rc_S_ext hz (fun x hx => (if_pos (by omega)).symm)
    exact pk_le 4 4 (fun _ => rc_total hs hz2 (H z.1 z.2.1 z.2.2.1 z.2.2.2.1 z.2.2.2.2 d6 hz2)) (fun y => absurd y (by omega))
  · intro n c z hc hz ih
    refine pk_le 4 c (fun y => absurd y (by omega)) (fun _ => rc_sh41 hs hc hb (fun d b1 b2 b3 b4 h1 h2 h3 h4 => ih (b1, b2, b3, b4, d) (rc_S_put hz h2 h3 h4 (fun x hx => ?_) (fun j hj hjc x hx => ?_))))
    · show (if 128 * c + x < 128 * (c + 1) then rc_sh b g (128 * c + x) else g (128 * c + x)) = rc_w d x
      rw [if_pos (by omega), h1 x hx, hg _ (by omega)]
    · show (if 128 * j + x < 128 * (c + 1) then rc_sh b g (128 * j + x) else g (128 * j + x)) = (if 128 * j + x < 128 * c then rc_sh b g (128 * j + x) else g (128 * j + x))
      by_cases y : j < c
      · rw [if_pos (by omega), if_pos (by omega)]
      · rw [if_neg (by omega), if_neg (by omega)]
end
/-! size, rank -/
section
theorem rc_sizeS {post : Int32 → Prop} {t : Int32} {a1 a2 a3 a4 a5 a6 a7 : Nat → Int32} {p : Int32} (h : ¬ (¬ p < 0 ∧ ¬ 2 < p)) (H : post (-1)) : wpX_size post (t, a1, a2, a3, a4, a5, a6, a7) p := by
  unfold wpX_size
  exact rc_isS_f h (br_t rfl H)
theorem rc_sizeT {post : Int32 → Prop} {t : Int32} {a1 a2 a3 a4 a5 a6 a7 : Nat → Int32} {s : Nat} {g : Nat → Bool} (hs : s < 3) (h : rc_S s g a1 a2 a3 a4) (H : post (nI (rc_n g 512))) : wpX_size post (t, a1, a2, a3, a4, a5, a6, a7) (nI s) := by
  unfold wpX_size
  exact rc_isS_t hs (br_f (by decide) (rc_total hs h H))
theorem rc_rankS {post : Int32 → Prop} {t : Int32} {a1 a2 a3 a4 a5 a6 a7 : Nat → Int32} {p q : Int32} (h : ¬ (¬ p < 0 ∧ ¬ 2 < p)) (H : post (-1)) : wpX_rank post (t, a1, a2, a3, a4, a5, a6, a7) p q := by
  unfold wpX_rank
  exact rc_isS_f h (br_t rfl H)
theorem rc_below {post : Int32 → Prop} {t : Int32} {a1 a2 a3 a4 a5 a6 a7 : Nat → Int32} {k : Nat} (hk : k < 12) (H : post (a2 k)) : wpX_below post (t, a1, a2, a3, a4, a5, a6, a7) (nI k) 128 := by
  unfold wpX_below
  rw [nI_clamp (show k < 2 ^ 31 by omega)]
  exact nm_e (br_f (by decide) ⟨pk_in k 12 hk, H⟩)
theorem rc_rankT {post : Int32 → Prop} {t : Int32} {a1 a2 a3 a4 a5 a6 a7 : Nat → Int32} {s : Nat} {g : Nat → Bool} (hs : s < 3) (h : rc_S s g a1 a2 a3 a4) (H : post (nI (rc_n g 512))) : wpX_rank post (t, a1, a2, a3, a4, a5, a6, a7) (nI s) 512 := by
  unfold wpX_rank
  refine rc_isS_t hs (br_f (by decide) ?_)
  refine pk_loop (σ := Unit) (fun n i _ => wX_rank_14 post (nI s) 512 t a1 a2 a3 a4 a5 a6 a7 n (nI (rc_n g (128 * i))) (nI i)) (fun _ _ => True) 4 0 () (by omega) trivial ?_ ?_
  · intro n _ _
    exact pk_le 4 4 (fun _ => H) (fun z => absurd z (by omega))
  · intro n i _ hi _ hw
    have e1 : (128 : Int32) * nI i = nI (128 * i) := pk_mul 128 i
    have e2 : ((128 : Int32) * nI i) + 128 = nI (128 * i + 128) := rc_mi 128 i 128
    refine pk_le 4 i (fun z => absurd z (by omega)) (fun _ => pk_lt (128 * i) 512 (fun _ => pk_le 512 (128 * i) (fun z => absurd z (by omega)) (fun _ => pk_le (128 * i + 128) 512 (fun _ => ?_) (fun z => absurd z (by omega)) (hx := e2)) (hy := e1)) (fun z => absurd z (by omega)) (hx := e1))
    unfold wX_rank_73
    rw [rc_m4]
    refine rc_below (by omega) (nm_r (e' := nI (rc_n g (128 * (i + 1)))) ?_ (nm_r (nI_1 i) (hw () trivial)))
    rw [(h i hi).2, nI_add, Nat.mul_succ, rc_n_add]
end
end
section
/-! the plain law: one number and one interval -/
section
def rc_G (gn gr : Bool) (N f l x : Nat) : Bool := (gr && decide (f ≤ x ∧ x ≤ l)) || (gn && decide (x = N))
theorem rc_cG (gn gr : Bool) (N f l n : Nat) : rc_n (rc_G gn gr N f l) n = (if gr = true then min (l + 1) n - min f n else 0) + (if gn = true ∧ N < n ∧ ¬ (gr = true ∧ f ≤ N ∧ N ≤ l) then 1 else 0) := by
  have base : rc_n (fun x => gr && decide (f ≤ x ∧ x ≤ l)) n = (if gr = true then min (l + 1) n - min f n else 0) := by
    cases gr
    · rw [if_neg (by decide), ← rc_n_none n]
      exact rc_n_ext n (fun x _ => Bool.false_and _)
    · rw [if_pos rfl, ← rc_n_iv f l n]
      exact rc_n_ext n (fun x _ => Bool.true_and _)
  cases gn
  · have hn : ¬ (false = true ∧ N < n ∧ ¬ (gr = true ∧ f ≤ N ∧ N ≤ l)) := fun z => absurd z.1 (by decide)
    rw [if_neg hn, Nat.add_zero, ← base]
    refine rc_n_ext n (fun x _ => ?_)
    unfold rc_G
    rw [Bool.false_and, Bool.or_false]
  · have e : rc_n (rc_G true gr N f l) n = rc_n (fun x => (fun x => gr && decide (f ≤ x ∧ x ≤ l)) x || decide (x = N)) n := by
      refine rc_n_ext n (fun x _ => ?_)
      unfold rc_G
      rw [Bool.true_and]
    rw [e, rc_n_pt, base]
    congr 1
    have c : (N < n ∧ (gr && decide (f ≤ N ∧ N ≤ l)) = false) ↔ (true = true ∧ N < n ∧ ¬ (gr = true ∧ f ≤ N ∧ N ≤ l)) := by
      cases gr
      · simp
      · simp
    by_cases z : N < n ∧ (gr && decide (f ≤ N ∧ N ≤ l)) = false
    · rw [if_pos z, if_pos (c.mp z)]
    · rw [if_neg z, if_neg (fun y => z (c.mpr y))]
theorem rc_pG (gn gr : Bool) (N f l x : Nat) : rc_G gn gr N f l x = true ↔ (gr = true ∧ f ≤ x ∧ x ≤ l) ∨ (gn = true ∧ x = N) := by
  unfold rc_G
  rw [Bool.or_eq_true, Bool.and_eq_true, Bool.and_eq_true, decide_eq_true_eq, decide_eq_true_eq]
theorem rc_pst (g : Nat → Bool) (x : Nat) : rc_st g x = true ↔ g x = true ∧ ¬ (0 < x ∧ g (x - 1) = true) := by
  unfold rc_st
  rw [Bool.and_eq_true, Bool.not_eq_true', ← Bool.not_eq_true, Bool.and_eq_true, decide_eq_true_eq]
theorem rc_psh (b : Nat) (g : Nat → Bool) (x : Nat) : rc_sh b g x = true ↔ (b ≤ x + 511 ∧ x + 511 < b + 512) ∧ g (x + 511 - b) = true := by
  unfold rc_sh
  rw [Bool.and_eq_true, decide_eq_true_eq]
/-- where the runs start -/
theorem rc_sG (gn gr : Bool) (N f l x : Nat) (hfl : gr = true → f ≤ l) : rc_st (rc_G gn gr N f l) x = rc_G (gn && !(gr && decide ((f ≤ N ∧ N ≤ l) ∨ N = l + 1))) (gr && !(gn && decide (N + 1 = f))) N f f x := by
  apply rc_beq
  rw [rc_pst, rc_pG, rc_pG, rc_pG]
  cases gn
  · cases gr
    · simp
    · have h := hfl rfl
      simp
      omega
  · cases gr
    · simp
      omega
    · have h := hfl rfl
      simp
      omega
theorem rc_cS (gn gr : Bool) (N f l : Nat) (hN : gn = true → N < 512) (hl : gr = true → f ≤ l ∧ l < 512) : rc_n (rc_st (rc_G gn gr N f l)) 512 = (if gr = true then 1 else 0) + (if gn = true ∧ ¬ (gr = true ∧ ((f ≤ N ∧ N ≤ l) ∨ N + 1 = f ∨ N = l + 1)) then 1 else 0) := by
  rw [rc_n_ext 512 (fun x _ => rc_sG gn gr N f l x (fun z => (hl z).1)), rc_cG]
  cases gn
  · cases gr
    · simp
    · have h := hl rfl
      simp
      omega
  · have hn := hN rfl
    cases gr
    · simp [hn]
    · have h := hl rfl
      by_cases z1 : N + 1 = f
      · simp [z1, hn]
        omega
      · by_cases z2 : (f ≤ N ∧ N ≤ l) ∨ N = l + 1
        · have z3 : (f ≤ N ∧ N ≤ l) ∨ N + 1 = f ∨ N = l + 1 := by omega
          simp [z1, z2, z3]
          omega
        · have z3 : ¬ ((f ≤ N ∧ N ≤ l) ∨ N + 1 = f ∨ N = l + 1) := by omega
          have z4 : ¬ (f ≤ N ∧ N ≤ f) := by omega
          simp [z1, z2, z3, z4, hn]
          omega
/-- shifted -/
theorem rc_shG (gn gr : Bool) (N f l b x : Nat) (hN : gn = true → N < 512) (hl : gr = true → f ≤ l ∧ l < 512) : rc_sh b (rc_G gn gr N f l) x = rc_G (gn && decide (511 ≤ N + b)) (gr && decide (511 ≤ l + b)) (N + b - 511) (f + b - 511) (l + b - 511) x := by
  apply rc_beq
  rw [rc_psh, rc_pG, rc_pG]
  cases gn
  · cases gr
    · simp
    · have h := hl rfl
      simp
      omega
  · have hn := hN rfl
    cases gr
    · simp
      omega
    · have h := hl rfl
      simp
      omega
theorem rc_cSh (gn gr : Bool) (N f l b : Nat) (hN : gn = true → N < 512) (hl : gr = true → f ≤ l ∧ l < 512) : rc_n (rc_sh b (rc_G gn gr N f l)) 512 = (if gr = true ∧ 511 ≤ l + b then min (l + b - 510) 512 - min (f + b - 511) 512 else 0) + (if (gn = true ∧ ¬ (gr = true ∧ f ≤ N ∧ N ≤ l)) ∧ 511 ≤ N + b ∧ N + b < 1023 then 1 else 0) := by
  rw [rc_n_ext 512 (fun x _ => rc_shG gn gr N f l b x hN hl), rc_cG]
  congr 1
  · by_cases z : gr = true ∧ 511 ≤ l + b
    · rw [if_pos z, if_pos (by rw [z.1, decide_eq_true z.2]; rfl)]
      have := z.2
      rw [show l + b - 511 + 1 = l + b - 510 by omega]
    · rw [if_neg z, if_neg (by rw [Bool.and_eq_true, decide_eq_true_eq]; exact z)]
  · have c : ((gn && decide (511 ≤ N + b)) = true ∧ N + b - 511 < 512 ∧ ¬ ((gr && decide (511 ≤ l + b)) = true ∧ f + b - 511 ≤ N + b - 511 ∧ N + b - 511 ≤ l + b - 511)) ↔ ((gn = true ∧ ¬ (gr = true ∧ f ≤ N ∧ N ≤ l)) ∧ 511 ≤ N + b ∧ N + b < 1023) := by
      rw [Bool.and_eq_true, Bool.and_eq_true, decide_eq_true_eq, decide_eq_true_eq]
      cases gn
      · simp
      · cases gr
        · simp
          omega
        · have h := hl rfl
          simp
          omega
    by_cases z : ((gn = true ∧ ¬ (gr = true ∧ f ≤ N ∧ N ≤ l)) ∧ 511 ≤ N + b ∧ N + b < 1023)
    · rw [if_pos z, if_pos (c.mpr z)]
    · rw [if_neg z, if_neg (fun y => z (c.mp y))]
/-- what add and fill make -/
theorem rc_G_0 (N f l : Nat) : (fun _ => false) = rc_G false false N f l := by
  funext x
  rfl
theorem rc_G_add (N f l : Nat) : (fun x => rc_G false false N f l x || decide (N ≤ x ∧ x ≤ N)) = rc_G true false N f l := by
  funext x
  apply rc_beq
  rw [Bool.or_eq_true, rc_pG, rc_pG, decide_eq_true_eq]
  simp
  omega
theorem rc_G_fill (gn : Bool) (N f l : Nat) : (fun x => rc_G gn false N f l x || decide (f ≤ x ∧ x ≤ l)) = rc_G gn true N f l := by
  funext x
  apply rc_beq
  rw [Bool.or_eq_true, rc_pG, rc_pG, decide_eq_true_eq]
  cases gn
  · simp
  · simp
    omega
end
end
section
/-! the walk of lawOf: nodes that only choose values -/
section
def rc_b (g : Bool) : Int32 := if g = true then 1 else 0
def rc_v13 (x4 : Int32) : Int32 := if x4 < (-511) ∨ 511 < x4 then 0 else 1
def rc_vlow (x2 x4 x8 x13 : Int32) : Int32 := if x8 = 0 ∨ x13 = 0 then 0 else x2 + x4
def rc_vhigh (x3 x4 x8 x13 : Int32) : Int32 := if x8 = 0 ∨ x13 = 0 then (-1) else x3 + x4
def rc_vA (lo : Int32) : Int32 := if 0 ≤ lo then lo else 0
def rc_vB (hi : Int32) : Int32 := if hi ≤ 511 then hi else 511
def rc_vC (lo hi : Int32) : Int32 := if hi < lo then 0 else (hi - lo) + 1
def rc_vD (x1 x4 x11 x13 v : Int32) : Int32 := if x11 = 0 ∨ x13 = 0 ∨ x1 + x4 < 0 ∨ 511 < x1 + x4 then v else v + 1
def rc_vX (x1 x2 x3 x4 x8 x11 x13 : Int32) : Int32 := rc_vD x1 x4 x11 x13 (rc_vC (rc_vA (rc_vlow x2 x4 x8 x13)) (rc_vB (rc_vhigh x3 x4 x8 x13)))
def rc_vR (x1 x2 x3 x8 x11 z0 : Int32) : Int32 := if x11 = 0 ∨ (¬ x8 = 0 ∧ (x1 = x2 - 1 ∨ x1 = x3 + 1)) then z0 else z0 + 1
def rc_vF (x2 x3 x8 x9 : Int32) : Int32 := if x8 = 0 then (-2) else ((x3 - x2) + 1) - (if x9 = 0 then 0 else 1)
def rc_v9 (x1 x2 x3 x7 x8 : Int32) : Int32 := if x7 = 0 ∨ x8 = 0 ∨ x1 < x2 ∨ x3 < x1 then 0 else 1
def rc_v11 (x7 x9 : Int32) : Int32 := if x7 = 0 ∨ ¬ x9 = 0 then 0 else 1
def rc_v7 (x1 : Int32) : Int32 := if x1 < 0 ∨ 511 < x1 then 0 else 1
def rc_v8 (x2 x3 : Int32) : Int32 := if x2 < 0 ∨ x3 < x2 ∨ 511 < x3 then 0 else 1
variable {post : Int32 → St0 → Prop} {mc ms kc ks : Nat} {x0 x1 x2 x3 x4 x6 x7 x8 x9 x11 x12 x13 x14 x15 x16 z0 z1 t : Int32} {a1 a2 a3 a4 a5 a6 a7 : Nat → Int32}
theorem rc_l357 (H : wL_lawOf_389 post mc ms x0 x2 x3 x4 x6 x8 x11 x13 (rc_vD x1 x4 x11 x13 z0) kc ks t a1 a2 a3 a4 a5 a6 a7) : wL_lawOf_357 post mc ms x0 x1 x2 x3 x4 x6 x8 x11 x13 z0 kc ks t a1 a2 a3 a4 a5 a6 a7 := by
  unfold wL_lawOf_357
  unfold rc_vD at H
  refine ⟨fun h1 => ?_, fun h1 => ⟨fun h2 => ?_, fun h2 => ⟨fun h3 => ?_, fun h3 => ⟨fun h4 => ?_, fun h4 => nm_e ?_⟩⟩⟩⟩
  · rw [if_pos (Or.inl h1)] at H
    exact H
  · rw [if_pos (Or.inr (Or.inl h2))] at H
    exact H
  · rw [if_pos (Or.inr (Or.inr (Or.inl h3)))] at H
    exact H
  · rw [if_pos (Or.inr (Or.inr (Or.inr h4)))] at H
    exact H
  · rw [if_neg (by rintro (h | h | h | h) <;> contradiction)] at H
    exact H
theorem rc_l339 (H : wL_lawOf_357 post mc ms x0 x1 x2 x3 x4 x6 x8 x11 x13 (rc_vC x14 x15) kc ks t a1 a2 a3 a4 a5 a6 a7) : wL_lawOf_339 post mc ms x0 x1 x2 x3 x4 x6 x8 x11 x13 x14 x15 kc ks t a1 a2 a3 a4 a5 a6 a7 := by
  unfold wL_lawOf_339
  unfold rc_vC at H
  refine ⟨fun h1 => ?_, fun h1 => ?_⟩
  · rw [if_pos h1] at H
    exact H
  · rw [if_neg h1] at H
    exact H
theorem rc_l326 (H : wL_lawOf_339 post mc ms x0 x1 x2 x3 x4 x6 x8 x11 x13 x14 (rc_vB x15) kc ks t a1 a2 a3 a4 a5 a6 a7) : wL_lawOf_326 post mc ms x0 x1 x2 x3 x4 x6 x8 x11 x13 x14 x15 kc ks t a1 a2 a3 a4 a5 a6 a7 := by
  unfold wL_lawOf_326
  unfold rc_vB at H
  refine ⟨fun h1 => ?_, fun h1 => ?_⟩
  · rw [if_pos h1] at H
    exact H
  · rw [if_neg h1] at H
    exact H
theorem rc_l316 (H : wL_lawOf_326 post mc ms x0 x1 x2 x3 x4 x6 x8 x11 x13 (rc_vA x14) z0 kc ks t a1 a2 a3 a4 a5 a6 a7) : wL_lawOf_316 post mc ms x0 x1 x2 x3 x4 x6 x8 x11 x13 x14 z0 kc ks t a1 a2 a3 a4 a5 a6 a7 := by
  unfold wL_lawOf_316
  unfold rc_vA at H
  refine ⟨fun h1 => ?_, fun h1 => ?_⟩
  · rw [if_pos h1] at H
    exact H
  · rw [if_neg h1] at H
    exact H
theorem rc_l296 (H : wL_lawOf_316 post mc ms x0 x1 x2 x3 x4 x6 x8 x11 x13 z0 (rc_vhigh x3 x4 x8 x13) kc ks t a1 a2 a3 a4 a5 a6 a7) : wL_lawOf_296 post mc ms x0 x1 x2 x3 x4 x6 x8 x11 x13 z0 kc ks t a1 a2 a3 a4 a5 a6 a7 := by
  unfold wL_lawOf_296
  unfold rc_vhigh at H
  refine ⟨fun h1 => ?_, fun h1 => ⟨fun h2 => ?_, fun h2 => ?_⟩⟩
  · rw [if_pos (Or.inl h1)] at H
    exact H
  · rw [if_pos (Or.inr h2)] at H
    exact H
  · rw [if_neg (by rintro (h | h) <;> contradiction)] at H
    exact H
theorem rc_l276 (H : wL_lawOf_389 post mc ms x0 x2 x3 x4 x6 x8 x11 z0 (rc_vX x1 x2 x3 x4 x8 x11 z0) kc ks t a1 a2 a3 a4 a5 a6 a7) : wL_lawOf_276 post mc ms x0 x1 x2 x3 x4 x6 x8 x11 z0 kc ks t a1 a2 a3 a4 a5 a6 a7 := by
  have H2 : wL_lawOf_296 post mc ms x0 x1 x2 x3 x4 x6 x8 x11 z0 (rc_vlow x2 x4 x8 z0) kc ks t a1 a2 a3 a4 a5 a6 a7 := rc_l296 (rc_l316 (rc_l326 (rc_l339 (rc_l357 H))))
  unfold wL_lawOf_276
  unfold rc_vlow at H2
  refine ⟨fun h1 => ?_, fun h1 => ⟨fun h2 => ?_, fun h2 => ?_⟩⟩
  · rw [if_pos (Or.inl h1)] at H2
    exact H2
  · rw [if_pos (Or.inr h2)] at H2
    exact H2
  · rw [if_neg (by rintro (h | h) <;> contradiction)] at H2
    exact H2
theorem rc_l250 (e : z1 = z0) (H : wL_lawOf_389 post mc ms x0 x2 x3 x4 x6 x8 x11 (rc_v13 x4) (rc_vX x1 x2 x3 x4 x8 x11 (rc_v13 x4)) kc ks t a1 a2 a3 a4 a5 a6 a7) : wL_lawOf_250 post mc ms x0 x1 x2 x3 x4 x6 x8 x11 z0 z1 kc ks t a1 a2 a3 a4 a5 a6 a7 := by
  have H2 : wL_lawOf_276 post mc ms x0 x1 x2 x3 x4 x6 x8 x11 (rc_v13 x4) kc ks t a1 a2 a3 a4 a5 a6 a7 := rc_l276 H
  unfold wL_lawOf_250
  unfold rc_v13 at H2
  refine br_t e ⟨fun h1 => ?_, fun h1 => ⟨fun h2 => ?_, fun h2 => ?_⟩⟩
  · rw [if_pos (Or.inl h1)] at H2
    exact H2
  · rw [if_pos (Or.inr h2)] at H2
    exact H2
  · rw [if_neg (by rintro (h | h) <;> contradiction)] at H2
    exact H2
theorem rc_l204 (H : wL_lawOf_233 post mc ms x0 x1 x2 x3 x4 x6 x8 x11 (rc_vR x1 x2 x3 x8 x11 z0) kc ks t a1 a2 a3 a4 a5 a6 a7) : wL_lawOf_204 post mc ms x0 x1 x2 x3 x4 x6 x8 x11 z0 kc ks t a1 a2 a3 a4 a5 a6 a7 := by
  unfold wL_lawOf_204
  unfold rc_vR at H
  refine ⟨fun h1 => ?_, fun h1 => ⟨fun h2 => nm_e ?_, fun h2 => ⟨fun h3 => ?_, fun h3 => ⟨fun h4 => ?_, fun h4 => nm_e ?_⟩⟩⟩⟩
  · rw [if_pos (Or.inl h1)] at H
    exact H
  · rw [if_neg (by rintro (h | ⟨h, _⟩) <;> contradiction)] at H
    exact H
  · rw [if_pos (Or.inr ⟨h2, Or.inl h3⟩)] at H
    exact H
  · rw [if_pos (Or.inr ⟨h2, Or.inr h4⟩)] at H
    exact H
  · rw [if_neg (by rintro (h | ⟨_, h | h⟩) <;> contradiction)] at H
    exact H
theorem rc_l192 (H : wL_lawOf_204 post mc ms x0 x1 x2 x3 x4 x6 x8 z0 (if x8 = 0 then 0 else 1) kc ks t a1 a2 a3 a4 a5 a6 a7) : wL_lawOf_192 post mc ms x0 x1 x2 x3 x4 x6 x8 z0 kc ks t a1 a2 a3 a4 a5 a6 a7 := by
  unfold wL_lawOf_192
  refine ⟨fun h1 => ?_, fun h1 => ?_⟩
  · rw [if_pos h1] at H
    exact H
  · rw [if_neg h1] at H
    exact H
theorem rc_l172 (e : z1 = z0) (H : wL_lawOf_192 post mc ms x0 x1 x2 x3 x4 x6 x8 (rc_v11 x7 x9) kc ks t a1 a2 a3 a4 a5 a6 a7) : wL_lawOf_172 post mc ms x0 x1 x2 x3 x4 x6 x7 x8 x9 z0 z1 kc ks t a1 a2 a3 a4 a5 a6 a7 := by
  unfold wL_lawOf_172
  unfold rc_v11 at H
  refine br_t e ⟨fun h1 => ?_, fun h1 => ⟨fun h2 => ?_, fun h2 => ?_⟩⟩
  · rw [if_pos (Or.inl h1)] at H
    exact H
  · rw [if_neg (by rintro (h | h) <;> contradiction)] at H
    exact H
  · rw [if_pos (Or.inr h2)] at H
    exact H
theorem rc_l123 (H : wL_lawOf_151 post mc ms x0 x1 x2 x3 x4 x6 x7 x8 z0 (rc_vF x2 x3 x8 z0) kc ks t a1 a2 a3 a4 a5 a6 a7) : wL_lawOf_123 post mc ms x0 x1 x2 x3 x4 x6 x7 x8 z0 kc ks t a1 a2 a3 a4 a5 a6 a7 := by
  unfold wL_lawOf_123
  unfold rc_vF at H
  refine ⟨fun h1 => ?_, fun h1 => ⟨fun h2 => ?_, fun h2 => ?_⟩⟩
  · rw [if_pos h1] at H
    exact H
  · rw [if_neg h1, if_pos h2] at H
    exact H
  · rw [if_neg h1, if_neg h2] at H
    exact H
theorem rc_l93 (e : z1 = z0) (H : wL_lawOf_123 post mc ms x0 x1 x2 x3 x4 x6 x7 x8 (rc_v9 x1 x2 x3 x7 x8) kc ks t a1 a2 a3 a4 a5 a6 a7) : wL_lawOf_93 post mc ms x0 x1 x2 x3 x4 x6 x7 x8 z0 z1 kc ks t a1 a2 a3 a4 a5 a6 a7 := by
  unfold wL_lawOf_93
  unfold rc_v9 at H
  refine br_t e ⟨fun h1 => ?_, fun h1 => ⟨fun h2 => ?_, fun h2 => ⟨fun h3 => ?_, fun h3 => ⟨fun h4 => ?_, fun h4 => ?_⟩⟩⟩⟩
  · rw [if_pos (Or.inl h1)] at H
    exact H
  · rw [if_pos (Or.inr (Or.inl h2))] at H
    exact H
  · rw [if_pos (Or.inr (Or.inr (Or.inl h3)))] at H
    exact H
  · rw [if_pos (Or.inr (Or.inr (Or.inr h4)))] at H
    exact H
  · rw [if_neg (by rintro (h | h | h | h) <;> contradiction)] at H
    exact H
theorem rc_l41 (H : wL_lawOf_64 post mc ms x0 x1 x2 x3 x4 x6 z0 (rc_v8 x2 x3) kc ks t a1 a2 a3 a4 a5 a6 a7) : wL_lawOf_41 post mc ms x0 x1 x2 x3 x4 x6 z0 kc ks t a1 a2 a3 a4 a5 a6 a7 := by
  unfold wL_lawOf_41
  unfold rc_v8 at H
  refine ⟨fun h1 => ?_, fun h1 => ⟨fun h2 => ?_, fun h2 => ⟨fun h3 => ?_, fun h3 => ?_⟩⟩⟩
  · rw [if_pos (Or.inl h1)] at H
    exact H
  · rw [if_pos (Or.inr (Or.inl h2))] at H
    exact H
  · rw [if_pos (Or.inr (Or.inr h3))] at H
    exact H
  · rw [if_neg (by rintro (h | h | h) <;> contradiction)] at H
    exact H
theorem rc_l23 (H : wL_lawOf_41 post mc ms x0 x1 x2 x3 x4 z0 (rc_v7 x1) kc ks t a1 a2 a3 a4 a5 a6 a7) : wL_lawOf_23 post mc ms x0 x1 x2 x3 x4 z0 kc ks t a1 a2 a3 a4 a5 a6 a7 := by
  unfold wL_lawOf_23
  unfold rc_v7 at H
  refine ⟨fun h1 => ?_, fun h1 => ⟨fun h2 => ?_, fun h2 => ?_⟩⟩
  · rw [if_pos (Or.inl h1)] at H
    exact H
  · rw [if_pos (Or.inr h2)] at H
    exact H
  · rw [if_neg (by rintro (h | h) <;> contradiction)] at H
    exact H
/-! no such set: every method answers -1 -/
theorem rc_n458 (hp : post 1 ()) (hn : ¬ (¬ x0 < 0 ∧ ¬ 2 < x0)) : wL_lawOf_458 post mc ms x0 0 z0 kc ks t a1 a2 a3 a4 a5 a6 a7 := by
  unfold wL_lawOf_458
  refine rc_sizeS hn (br_t rfl ?_)
  unfold wL_lawOf_477
  exact br_t rfl (rc_rankS hn (br_t rfl (br_t rfl hp)))
theorem rc_n389 (hp : post 1 ()) (hn : ¬ (¬ x0 < 0 ∧ ¬ 2 < x0)) : wL_lawOf_389 post mc ms x0 x2 x3 x4 0 x8 x11 x13 x16 kc ks t a1 a2 a3 a4 a5 a6 a7 := by
  unfold wL_lawOf_389
  refine rc_shiftS hn (br_t rfl ?_)
  unfold wL_lawOf_418
  exact br_t rfl ⟨fun _ => ⟨fun _ => ⟨fun _ => rc_n458 hp hn, fun _ => rc_n458 hp hn⟩, fun _ => ⟨fun _ => rc_n458 hp hn, fun _ => rc_n458 hp hn⟩⟩, fun _ => rc_n458 hp hn⟩
theorem rc_n172 (hp : post 1 ()) (hn : ¬ (¬ x0 < 0 ∧ ¬ 2 < x0)) (e : z1 = z0) : wL_lawOf_172 post mc ms x0 x1 x2 x3 x4 0 x7 x8 x9 z0 z1 kc ks t a1 a2 a3 a4 a5 a6 a7 := by
  refine rc_l172 e (rc_l192 (rc_l204 ?_))
  unfold wL_lawOf_233
  exact rc_runsS hn (br_t rfl (rc_l250 rfl (rc_n389 hp hn)))
theorem rc_n23 (hp : post 1 ()) (hn : ¬ (¬ x0 < 0 ∧ ¬ 2 < x0)) : wL_lawOf_23 post mc ms x0 x1 x2 x3 x4 0 kc ks t a1 a2 a3 a4 a5 a6 a7 := by
  refine rc_l23 (rc_l41 ?_)
  unfold wL_lawOf_64
  refine rc_addS hn (br_t rfl (rc_l93 rfl (rc_l123 ?_)))
  unfold wL_lawOf_151
  exact rc_fillS hn (br_t rfl (rc_n172 hp hn rfl))
end
end
section
/-! the values that the law computes -/
section
def rc_ins (gn gr : Bool) (N f l : Nat) : Bool := gn && (gr && decide (f ≤ N ∧ N ≤ l))
def rc_one (gn gr : Bool) (N f l : Nat) : Bool := gn && !(rc_ins gn gr N f l)
def rc_H (gn gr : Bool) (N f l : Nat) (x1 x2 x3 : Int32) : Prop := (gn = true → x1 = nI N ∧ N < 512) ∧ (gr = true → x2 = nI f ∧ x3 = nI l ∧ f ≤ l ∧ l < 512)
variable {gn gr : Bool} {N f l b : Nat} {x1 x2 x3 x4 : Int32}
theorem rc_b0 (g : Bool) : rc_b g = 0 ↔ ¬ g = true := by cases g <;> decide
theorem rc_pin : rc_ins gn gr N f l = true ↔ gn = true ∧ gr = true ∧ f ≤ N ∧ N ≤ l := by
  unfold rc_ins
  rw [Bool.and_eq_true, Bool.and_eq_true, decide_eq_true_eq]
theorem rc_pone : rc_one gn gr N f l = true ↔ gn = true ∧ ¬ (gr = true ∧ f ≤ N ∧ N ≤ l) := by
  unfold rc_one
  rw [Bool.and_eq_true, Bool.not_eq_true', ← Bool.not_eq_true, rc_pin]
  constructor
  · intro h
    exact ⟨h.1, fun z => h.2 ⟨h.1, z⟩⟩
  · intro h
    exact ⟨h.1, fun z => h.2 z.2⟩
theorem rc_bt {g : Bool} (h : g = true) : rc_b g = 1 := by rw [h]; rfl
theorem rc_bf {g : Bool} (h : ¬ g = true) : rc_b g = 0 := (rc_b0 g).mpr h
theorem rc_e9 (h : rc_H gn gr N f l x1 x2 x3) : rc_v9 x1 x2 x3 (rc_b gn) (rc_b gr) = rc_b (rc_ins gn gr N f l) := by
  unfold rc_v9
  by_cases z1 : gn = true
  · by_cases z2 : gr = true
    · obtain ⟨e1, hN⟩ := h.1 z1
      obtain ⟨e2, e3, hfl, hl⟩ := h.2 z2
      subst e1 e2 e3
      by_cases z3 : f ≤ N ∧ N ≤ l
      · refine (if_neg ?_).trans (rc_bt (rc_pin.mpr ⟨z1, z2, z3⟩)).symm
        rintro (q | q | q | q)
        · exact (rc_b0 gn).mp q z1
        · exact (rc_b0 gr).mp q z2
        · have := (nI_ltI (by omega) (by omega)).mp q
          omega
        · have := (nI_ltI (by omega) (by omega)).mp q
          omega
      · refine (if_pos ?_).trans (rc_bf (fun y => z3 (rc_pin.mp y).2.2)).symm
        right
        right
        by_cases z4 : N < f
        · left
          exact nI_lt z4 (by omega)
        · right
          exact nI_lt (by omega) (by omega)
    · exact (if_pos (Or.inr (Or.inl (rc_bf z2)))).trans (rc_bf (fun y => z2 (rc_pin.mp y).2.1)).symm
  · exact (if_pos (Or.inl (rc_bf z1))).trans (rc_bf (fun y => z1 (rc_pin.mp y).1)).symm
theorem rc_e11 : rc_v11 (rc_b gn) (rc_b (rc_ins gn gr N f l)) = rc_b (rc_one gn gr N f l) := by
  unfold rc_v11 rc_one
  generalize rc_ins gn gr N f l = q
  cases gn <;> cases q <;> decide
theorem rc_m1e {N f : Nat} (hN : N < 512) (hf : f < 512) : nI N = nI f - 1 ↔ N + 1 = f := by
  constructor
  · intro h
    have e : nI N + 1 = nI f := by
      rw [h]
      generalize nI f = y
      grind
    rw [nI_1] at e
    exact (nI_eq (by omega) (by omega)).mp e
  · intro h
    rw [← h]
    exact (nI_pred N).symm
theorem rc_e12 (h : rc_H gn gr N f l x1 x2 x3) : rc_vR x1 x2 x3 (rc_b gr) (rc_b (rc_one gn gr N f l)) (if rc_b gr = 0 then 0 else 1) = nI (rc_n (rc_st (rc_G gn gr N f l)) 512) := by
  rw [rc_cS gn gr N f l (fun z => (h.1 z).2) (fun z => (h.2 z).2.2)]
  have e0 : (if rc_b gr = 0 then (0 : Int32) else 1) = nI (if gr = true then 1 else 0) := by cases gr <;> decide
  rw [e0]
  unfold rc_vR
  by_cases z1 : rc_one gn gr N f l = true
  · obtain ⟨g1, g2⟩ := rc_pone.mp z1
    by_cases z2 : gr = true
    · obtain ⟨e1, hN⟩ := h.1 g1
      obtain ⟨e2, e3, hfl, hl⟩ := h.2 z2
      subst e1 e2 e3
      by_cases z3 : N + 1 = f ∨ N = l + 1
      · have hc : ¬ (gn = true ∧ ¬ (gr = true ∧ ((f ≤ N ∧ N ≤ l) ∨ N + 1 = f ∨ N = l + 1))) := fun y => y.2 ⟨z2, Or.inr z3⟩
        rw [if_neg hc, Nat.add_zero]
        refine if_pos (Or.inr ⟨fun y => (rc_b0 gr).mp y z2, ?_⟩)
        rcases z3 with y | y
        · left
          exact (rc_m1e hN (by omega)).mpr y
        · right
          rw [y, nI_1]
      · have hc : gn = true ∧ ¬ (gr = true ∧ ((f ≤ N ∧ N ≤ l) ∨ N + 1 = f ∨ N = l + 1)) := by
          refine ⟨g1, fun y => ?_⟩
          rcases y.2 with y | y
          · exact g2 ⟨z2, y⟩
          · exact z3 y
        rw [if_pos hc, ← nI_1]
        refine if_neg ?_
        rintro (y | ⟨_, y | y⟩)
        · exact (rc_b0 _).mp y z1
        · exact z3 (Or.inl ((rc_m1e hN (by omega)).mp y))
        · rw [nI_1] at y
          exact z3 (Or.inr ((nI_eq (by omega) (by omega)).mp y))
    · have hc : gn = true ∧ ¬ (gr = true ∧ ((f ≤ N ∧ N ≤ l) ∨ N + 1 = f ∨ N = l + 1)) := ⟨g1, fun y => z2 y.1⟩
      rw [if_pos hc, ← nI_1]
      refine if_neg ?_
      rintro (y | y)
      · exact (rc_b0 _).mp y z1
      · exact y.1 (rc_bf z2)
  · have hc : ¬ (gn = true ∧ ¬ (gr = true ∧ ((f ≤ N ∧ N ≤ l) ∨ N + 1 = f ∨ N = l + 1))) := fun y => z1 (rc_pone.mpr ⟨y.1, fun w => y.2 ⟨w.1, Or.inl w.2⟩⟩)
    rw [if_neg hc, Nat.add_zero]
    exact if_pos (Or.inl (rc_bf z1))
theorem rc_esz (h : rc_H gn gr N f l x1 x2 x3) : (if rc_b gr = 0 then 0 else (x3 - x2) + 1) + (if rc_b (rc_one gn gr N f l) = 0 then 0 else 1) = nI (rc_n (rc_G gn gr N f l) 512) := by
  have e1 : (if rc_b gr = 0 then 0 else (x3 - x2) + 1) = nI (if gr = true then min (l + 1) 512 - min f 512 else 0) := by
    by_cases z : gr = true
    · obtain ⟨e2, e3, hfl, hl⟩ := h.2 z
      rw [if_neg (by rw [rc_bt z]; decide), if_pos z, e2, e3, pk_sub hfl, nI_1]
      congr 1
      omega
    · rw [if_pos (rc_bf z), if_neg z]
      rfl
  have e2 : (if rc_b (rc_one gn gr N f l) = 0 then (0 : Int32) else 1) = nI (if gn = true ∧ N < 512 ∧ ¬ (gr = true ∧ f ≤ N ∧ N ≤ l) then 1 else 0) := by
    by_cases z : rc_one gn gr N f l = true
    · obtain ⟨g1, g2⟩ := rc_pone.mp z
      rw [if_neg (by rw [rc_bt z]; decide), if_pos ⟨g1, (h.1 g1).2, g2⟩]
      rfl
    · rw [if_pos (rc_bf z), if_neg (fun y => z (rc_pone.mpr ⟨y.1, y.2.2⟩))]
      rfl
  rw [rc_cG, e1, e2, nI_add]
theorem rc_sum {f b : Nat} (h : 511 ≤ f + b) : nI f + (nI b - 511) = nI (f + b - 511) := by
  have e1 : nI (f + b - 511) = nI (f + b) - 511 := (pk_sub (b := 511) h).symm
  rw [e1, ← nI_add]
  generalize nI f = x
  generalize nI b = y
  grind
theorem rc_sumn {f b : Nat} (h : f + b < 511) : nI f + (nI b - 511) < 0 := by
  have e1 : nI f + (nI b - 511) = nI (f + b) - 511 := by
    rw [← nI_add]
    generalize nI f = x
    generalize nI b = y
    grind
  rw [e1]
  exact pk_sneg (b := 511) (by omega) h
theorem rc_eA {f b : Nat} (hf : f < 512) (hb : b ≤ 1022) : rc_vA (nI f + (nI b - 511)) = nI (f + b - 511) := by
  unfold rc_vA
  rcases Nat.lt_or_ge (f + b) 511 with h | h
  · rw [if_neg (Int32.not_le.mpr (rc_sumn h)), show f + b - 511 = 0 by omega]
    rfl
  · rw [rc_sum h, if_pos (nI_pos' (by omega))]
theorem rc_eC {f l b : Nat} (hfl : f ≤ l) (hl : l < 512) (hb : b ≤ 1022) : rc_vC (nI (f + b - 511)) (rc_vB (nI l + (nI b - 511))) = nI (if 511 ≤ l + b then min (l + b - 510) 512 - min (f + b - 511) 512 else 0) := by
  unfold rc_vC rc_vB
  rcases Nat.lt_or_ge (l + b) 511 with h | h
  · have hn := rc_sumn h
    have h5 : nI l + (nI b - 511) ≤ 511 := by
      rw [Int32.le_iff_toInt_le]
      rw [Int32.lt_iff_toInt_lt] at hn
      have c1 : (0 : Int32).toInt = 0 := by decide
      have c2 : (511 : Int32).toInt = 511 := by decide
      omega
    have h6 : nI l + (nI b - 511) < nI (f + b - 511) := by
      rw [show f + b - 511 = 0 by omega]
      exact hn
    rw [if_pos h5, if_pos h6, if_neg (by omega)]
    rfl
  · rw [rc_sum h, if_pos h]
    have e : (if nI (l + b - 511) ≤ 511 then nI (l + b - 511) else (511 : Int32)) = nI (min 511 (l + b - 511)) := by
      rcases Nat.lt_or_ge 511 (l + b - 511) with z | z
      · rw [show min 511 (l + b - 511) = 511 by omega]
        exact if_neg (nI_ge (b := l + b - 511) (a := 511) z (by omega))
      · rw [show min 511 (l + b - 511) = l + b - 511 by omega]
        exact if_pos (nI_le (b := 511) z (by omega))
    rw [e]
    rcases Nat.lt_or_ge (min 511 (l + b - 511)) (f + b - 511) with z | z
    · rw [if_pos (nI_lt z (by omega)), show min (l + b - 510) 512 - min (f + b - 511) 512 = 0 by omega]
      rfl
    · rw [if_neg (nI_nlt z (by omega)), pk_sub z, nI_1]
      congr 1
      omega
theorem rc_eX (hb : b ≤ 1022) (h : rc_H gn gr N f l x1 x2 x3) : rc_vX x1 x2 x3 (nI b - 511) (rc_b gr) (rc_b (rc_one gn gr N f l)) 1 = nI (rc_n (rc_sh b (rc_G gn gr N f l)) 512) := by
  rw [rc_cSh gn gr N f l b (fun z => (h.1 z).2) (fun z => (h.2 z).2.2)]
  have e : rc_vC (rc_vA (rc_vlow x2 (nI b - 511) (rc_b gr) 1)) (rc_vB (rc_vhigh x3 (nI b - 511) (rc_b gr) 1)) = nI (if gr = true ∧ 511 ≤ l + b then min (l + b - 510) 512 - min (f + b - 511) 512 else 0) := by
    by_cases z : gr = true
    · obtain ⟨e2, e3, hfl, hl⟩ := h.2 z
      subst e2 e3
      have q1 : rc_vlow (nI f) (nI b - 511) (rc_b gr) 1 = nI f + (nI b - 511) := by
        rw [rc_bt z]
        exact if_neg (by decide)
      have q2 : rc_vhigh (nI l) (nI b - 511) (rc_b gr) 1 = nI l + (nI b - 511) := by
        rw [rc_bt z]
        exact if_neg (by decide)
      rw [q1, q2, rc_eA (by omega) hb, rc_eC hfl hl hb]
      congr 1
      by_cases y : 511 ≤ l + b
      · rw [if_pos y, if_pos ⟨z, y⟩]
      · rw [if_neg y, if_neg (fun w => y w.2)]
    · have q1 : rc_vlow x2 (nI b - 511) (rc_b gr) 1 = 0 := by
        rw [rc_bf z]
        exact if_pos (Or.inl rfl)
      have q2 : rc_vhigh x3 (nI b - 511) (rc_b gr) 1 = (-1) := by
        rw [rc_bf z]
        exact if_pos (Or.inl rfl)
      rw [q1, q2, if_neg (fun w => z w.1)]
      decide
  unfold rc_vX
  rw [e]
  unfold rc_vD
  by_cases z1 : rc_one gn gr N f l = true
  · have g := rc_pone.mp z1
    obtain ⟨e1, hN⟩ := h.1 g.1
    subst e1
    rcases Nat.lt_or_ge (N + b) 511 with y | y
    · have hc : ¬ ((gn = true ∧ ¬ (gr = true ∧ f ≤ N ∧ N ≤ l)) ∧ 511 ≤ N + b ∧ N + b < 1023) := fun w => absurd w.2.1 (by omega)
      rw [if_neg hc, Nat.add_zero]
      exact if_pos (Or.inr (Or.inr (Or.inl (rc_sumn y))))
    · rcases Nat.lt_or_ge (N + b) 1023 with w | w
      · have hc : (gn = true ∧ ¬ (gr = true ∧ f ≤ N ∧ N ≤ l)) ∧ 511 ≤ N + b ∧ N + b < 1023 := ⟨g, y, w⟩
        rw [if_pos hc, ← nI_1]
        refine if_neg ?_
        rintro (q | q | q | q)
        · exact (rc_b0 _).mp q z1
        · exact absurd q (by decide)
        · rw [rc_sum y] at q
          exact absurd q (nI_pos (by omega))
        · rw [rc_sum y] at q
          exact absurd q (nI_nlt (a := 511) (b := N + b - 511) (by omega) (by omega))
      · have hc : ¬ ((gn = true ∧ ¬ (gr = true ∧ f ≤ N ∧ N ≤ l)) ∧ 511 ≤ N + b ∧ N + b < 1023) := fun q => absurd q.2.2 (by omega)
        rw [if_neg hc, Nat.add_zero]
        refine if_pos (Or.inr (Or.inr (Or.inr ?_)))
        rw [rc_sum y]
        exact nI_lt (a := 511) (b := N + b - 511) (by omega) (by omega)
  · have hc : ¬ ((gn = true ∧ ¬ (gr = true ∧ f ≤ N ∧ N ≤ l)) ∧ 511 ≤ N + b ∧ N + b < 1023) := fun w => z1 (rc_pone.mpr w.1)
    rw [if_neg hc, Nat.add_zero]
    exact if_pos (Or.inl (rc_bf z1))
theorem rc_eF (h : rc_H gn true N f l x1 x2 x3) : nI (rc_n (rc_G gn true N f l) 512) - nI (rc_n (rc_G gn false N f l) 512) = rc_vF x2 x3 (rc_b true) (rc_b (rc_ins gn true N f l)) := by
  obtain ⟨e2, e3, hfl, hl⟩ := h.2 rfl
  subst e2 e3
  unfold rc_vF
  have e : (if rc_b (rc_ins gn true N f l) = 0 then (0 : Int32) else 1) = nI (if gn = true ∧ f ≤ N ∧ N ≤ l then 1 else 0) := by
    by_cases z : rc_ins gn true N f l = true
    · have g := rc_pin.mp z
      rw [if_neg (by rw [rc_bt z]; decide), if_pos ⟨g.1, g.2.2⟩]
      rfl
    · rw [if_pos (rc_bf z), if_neg (fun y => z (rc_pin.mpr ⟨y.1, rfl, y.2⟩))]
      rfl
  rw [if_neg (by decide), e, pk_sub hfl, nI_1, rc_cG, rc_cG, if_pos rfl, if_neg (show ¬ false = true by decide)]
  have hN : gn = true → N < 512 := fun z => (h.1 z).2
  by_cases z1 : gn = true
  · have hN1 := hN z1
    have c0 : gn = true ∧ N < 512 ∧ ¬ (false = true ∧ f ≤ N ∧ N ≤ l) := ⟨z1, hN1, fun y => absurd y.1 (by decide)⟩
    by_cases z2 : f ≤ N ∧ N ≤ l
    · have c1 : ¬ (gn = true ∧ N < 512 ∧ ¬ (true = true ∧ f ≤ N ∧ N ≤ l)) := fun y => y.2.2 ⟨rfl, z2⟩
      have c2 : gn = true ∧ f ≤ N ∧ N ≤ l := ⟨z1, z2⟩
      rw [if_neg c1, if_pos c0, if_pos c2, pk_sub (by omega), pk_sub (by omega)]
      congr 1
      omega
    · have c1 : gn = true ∧ N < 512 ∧ ¬ (true = true ∧ f ≤ N ∧ N ≤ l) := ⟨z1, hN1, fun y => z2 y.2⟩
      have c2 : ¬ (gn = true ∧ f ≤ N ∧ N ≤ l) := fun y => z2 y.2
      rw [if_pos c1, if_pos c0, if_neg c2, pk_sub (by omega), pk_sub (by omega)]
      congr 1
      omega
  · have c0 : ¬ (gn = true ∧ N < 512 ∧ ¬ (false = true ∧ f ≤ N ∧ N ≤ l)) := fun y => z1 y.1
    have c1 : ¬ (gn = true ∧ N < 512 ∧ ¬ (true = true ∧ f ≤ N ∧ N ≤ l)) := fun y => z1 y.1
    have c2 : ¬ (gn = true ∧ f ≤ N ∧ N ≤ l) := fun y => z1 y.1
    rw [if_neg c1, if_neg c0, if_neg c2, pk_sub (by omega), pk_sub (by omega)]
    congr 1
    omega
theorem rc_eN (hN : N < 512) : nI (rc_n (rc_G true false N f l) 512) - nI (rc_n (rc_G false false N f l) 512) = 1 := by
  have c1 : true = true ∧ N < 512 ∧ ¬ (false = true ∧ f ≤ N ∧ N ≤ l) := ⟨rfl, hN, fun y => absurd y.1 (by decide)⟩
  have c0 : ¬ (false = true ∧ N < 512 ∧ ¬ (false = true ∧ f ≤ N ∧ N ≤ l)) := fun y => absurd y.1 (by decide)
  rw [rc_cG, rc_cG, if_neg (show ¬ false = true by decide), if_pos c1, if_neg c0]
  decide
theorem rc_byE {x : Int32} (h1 : ¬ x < (-511)) (h2 : ¬ 511 < x) : ∃ b : Nat, b ≤ 1022 ∧ x = nI b - 511 := by
  rw [Int32.lt_iff_toInt_lt] at h1 h2
  have c1 : (-511 : Int32).toInt = -511 := by decide
  have c2 : (511 : Int32).toInt = 511 := by decide
  refine ⟨(x.toInt + 511).toNat, by omega, ?_⟩
  apply Int32.toInt_inj.mp
  have e : (nI (x.toInt + 511).toNat - 511).toInt = (((x.toInt + 511).toNat : Nat) : Int) - (511 : Nat) := pk_sub_toInt (b := 511) (by omega) (by omega)
  rw [e]
  omega
end
end
section
/-! the walk for a set that is there -/
section
variable {post : Int32 → St0 → Prop} {mc ms kc ks s N f l b : Nat} {gn gr : Bool} {g : Nat → Bool} {x1 x2 x3 x4 x8 x11 x12 x13 x16 z0 z1 t : Int32} {a1 a2 a3 a4 a5 a6 a7 : Nat → Int32}
theorem rc_l458 (hp : post 1 ()) (hs : s < 3) (h : rc_S s g a1 a2 a3 a4) (hz : z0 = nI (rc_n g 512)) : wL_lawOf_458 post mc ms (nI s) 1 z0 kc ks t a1 a2 a3 a4 a5 a6 a7 := by
  subst hz
  unfold wL_lawOf_458
  refine rc_sizeT hs h (br_f (by decide) ?_)
  unfold wL_lawOf_477
  exact br_t rfl (rc_rankT hs h (br_f (by decide) (br_t rfl hp)))
theorem rc_l418 (hp : post 1 ()) (hs : s < 3) (h : rc_S s g a1 a2 a3 a4) (e : z1 = z0) (hv : (if x13 = 0 then (if x8 = 0 then 0 else (x3 - x2) + 1) + (if x11 = 0 then 0 else 1) else x16) = nI (rc_n g 512)) : wL_lawOf_418 post mc ms (nI s) x2 x3 1 x8 x11 x13 x16 z0 z1 kc ks t a1 a2 a3 a4 a5 a6 a7 := by
  unfold wL_lawOf_418
  refine br_t e ⟨fun h13 => ?_, fun h13 => ?_⟩
  · rw [if_pos h13] at hv
    refine ⟨fun h8 => ?_, fun h8 => ?_⟩
    · rw [if_pos h8] at hv
      refine ⟨fun h11 => ?_, fun h11 => ?_⟩
      · rw [if_pos h11] at hv
        exact rc_l458 hp hs h hv
      · rw [if_neg h11] at hv
        exact rc_l458 hp hs h hv
    · rw [if_neg h8] at hv
      refine ⟨fun h11 => ?_, fun h11 => ?_⟩
      · rw [if_pos h11] at hv
        exact rc_l458 hp hs h hv
      · rw [if_neg h11] at hv
        exact rc_l458 hp hs h hv
  · rw [if_neg h13] at hv
    exact rc_l458 hp hs h hv
theorem rc_l389T (hp : post 1 ()) (hs : s < 3) (h : rc_S s g a1 a2 a3 a4) (hb : b ≤ 1022) (n1 : ¬ nI b - 511 < (-511)) (n2 : nI b - 511 ≤ 511) (hv : x16 = nI (rc_n (rc_sh b g) 512)) : wL_lawOf_389 post mc ms (nI s) x2 x3 (nI b - 511) 1 x8 x11 1 x16 kc ks t a1 a2 a3 a4 a5 a6 a7 := by
  unfold wL_lawOf_389
  refine rc_shiftT hs hb n1 n2 h (fun b1 b2 b3 b4 b5 b6 hS => br_f (by decide) (br_f (by decide) (rc_l418 hp hs hS hv.symm ?_)))
  exact (if_neg (by decide)).trans hv
theorem rc_l389F (hp : post 1 ()) (hs : s < 3) (h : rc_S s g a1 a2 a3 a4) (hn : ¬ (¬ x4 < (-511) ∧ x4 ≤ 511)) (hv : (if x8 = 0 then 0 else (x3 - x2) + 1) + (if x11 = 0 then 0 else 1) = nI (rc_n g 512)) : wL_lawOf_389 post mc ms (nI s) x2 x3 x4 1 x8 x11 0 x16 kc ks t a1 a2 a3 a4 a5 a6 a7 := by
  unfold wL_lawOf_389
  exact rc_shiftB hs hn (br_f (by decide) (br_t rfl (rc_l418 hp hs h rfl ((if_pos rfl).trans hv))))
theorem rc_tail (hp : post 1 ()) (hs : s < 3) (h : rc_S s (rc_G gn gr N f l) a1 a2 a3 a4) (hH : rc_H gn gr N f l x1 x2 x3) (e : z1 = z0) : wL_lawOf_172 post mc ms (nI s) x1 x2 x3 x4 1 (rc_b gn) (rc_b gr) (rc_b (rc_ins gn gr N f l)) z0 z1 kc ks t a1 a2 a3 a4 a5 a6 a7 := by
  refine rc_l172 e (rc_l192 (rc_l204 ?_))
  rw [rc_e11, rc_e12 hH]
  unfold wL_lawOf_233
  refine rc_runsT hs h (fun b5 b6 => br_f (by decide) (rc_l250 rfl ?_))
  by_cases n1 : x4 < (-511)
  · have e13 : rc_v13 x4 = 0 := if_pos (Or.inl n1)
    rw [e13]
    exact rc_l389F hp hs h (fun z => z.1 n1) (rc_esz hH)
  · by_cases n2 : 511 < x4
    · have e13 : rc_v13 x4 = 0 := if_pos (Or.inr n2)
      rw [e13]
      exact rc_l389F hp hs h (fun z => absurd n2 (Int32.not_lt.mpr z.2)) (rc_esz hH)
    · have e13 : rc_v13 x4 = 1 := if_neg (by rintro (h | h) <;> contradiction)
      rw [e13]
      obtain ⟨b, hb, eb⟩ := rc_byE n1 n2
      subst eb
      exact rc_l389T hp hs h hb n1 (Int32.not_lt.mp n2) (rc_eX hb hH)
theorem rc_g93 (hp : post 1 ()) (hs : s < 3) (h : rc_S s (rc_G gn false N f l) a1 a2 a3 a4) (hH : rc_H gn gr N f l x1 x2 x3) (hr : ¬ gr = true → ¬ (¬ x2 < 0 ∧ ¬ x3 < x2 ∧ ¬ 511 < x3)) (e : z1 = z0) : wL_lawOf_93 post mc ms (nI s) x1 x2 x3 x4 1 (rc_b gn) (rc_b gr) z0 z1 kc ks t a1 a2 a3 a4 a5 a6 a7 := by
  refine rc_l93 e (rc_l123 ?_)
  rw [rc_e9 hH]
  unfold wL_lawOf_151
  cases gr with
  | false =>
    exact rc_fillR hs (hr (by decide)) (br_f (by decide) (rc_tail hp hs h hH rfl))
  | true =>
    have hF := rc_eF hH
    obtain ⟨e2, e3, hfl, hl⟩ := hH.2 rfl
    subst e2 e3
    refine rc_fillT hs hfl hl h (fun b1 b2 b3 b4 b5 hS => br_f (by decide) (rc_tail hp hs ?_ hH ?_))
    · rw [rc_G_fill] at hS
      exact hS
    · rw [rc_G_fill]
      exact hF
theorem rc_g64 (hp : post 1 ()) (hs : s < 3) (hH : rc_H gn gr N f l x1 x2 x3) (hn : ¬ gn = true → ¬ (¬ x1 < 0 ∧ ¬ 511 < x1)) (hr : ¬ gr = true → ¬ (¬ x2 < 0 ∧ ¬ x3 < x2 ∧ ¬ 511 < x3)) : wL_lawOf_64 post mc ms (nI s) x1 x2 x3 x4 1 (rc_b gn) (rc_b gr) kc ks t (fun _ => 0) (fun _ => 0) (fun _ => 0) (fun _ => 0) a5 a6 a7 := by
  have h0 : rc_S s (rc_G false false N f l) (fun _ => 0) (fun _ => 0) (fun _ => 0) (fun _ => 0) := by
    rw [← rc_G_0]
    exact rc_S_0 s
  unfold wL_lawOf_64
  cases gn with
  | false =>
    exact rc_addN hs (hn (by decide)) (br_f (by decide) (br_t rfl (rc_g93 hp hs h0 hH hr rfl)))
  | true =>
    have hN := (hH.1 rfl).2
    have e1 := (hH.1 rfl).1
    subst e1
    refine rc_addT hs hN h0 (fun b1 b2 b3 b4 b5 hS => br_f (by decide) (br_f (by decide) (rc_g93 hp hs ?_ hH hr ?_)))
    · rw [rc_G_add] at hS
      exact hS
    · rw [rc_G_add]
      exact rc_eN hN
theorem rc_gn (x : Int32) : ∃ (gn : Bool) (N : Nat), rc_v7 x = rc_b gn ∧ (gn = true → x = nI N ∧ N < 512) ∧ (¬ gn = true → ¬ (¬ x < 0 ∧ ¬ 511 < x)) := by
  by_cases h : x < 0 ∨ 511 < x
  · refine ⟨false, 0, if_pos h, fun z => absurd z (by decide), fun _ z => ?_⟩
    rcases h with h | h
    · exact z.1 h
    · exact z.2 h
  · have h1 : ¬ x < 0 := fun z => h (Or.inl z)
    have h2 : ¬ 511 < x := fun z => h (Or.inr z)
    obtain ⟨j, hj, e⟩ := nI_of2 (M := 511) (n := 511) (by decide) h1 (Int32.not_lt.mp h2)
    exact ⟨true, j, if_neg h, fun _ => ⟨e, by omega⟩, fun z => absurd rfl z⟩
theorem rc_gr (x y : Int32) : ∃ (gr : Bool) (f l : Nat), rc_v8 x y = rc_b gr ∧ (gr = true → x = nI f ∧ y = nI l ∧ f ≤ l ∧ l < 512) ∧ (¬ gr = true → ¬ (¬ x < 0 ∧ ¬ y < x ∧ ¬ 511 < y)) := by
  by_cases h : x < 0 ∨ y < x ∨ 511 < y
  · refine ⟨false, 0, 0, if_pos h, fun z => absurd z (by decide), fun _ z => ?_⟩
    rcases h with h | h | h
    · exact z.1 h
    · exact z.2.1 h
    · exact z.2.2 h
  · have h1 : ¬ x < 0 := fun z => h (Or.inl z)
    have h2 : ¬ y < x := fun z => h (Or.inr (Or.inl z))
    have h3 : ¬ 511 < y := fun z => h (Or.inr (Or.inr z))
    have h4 : ¬ y < 0 := by
      intro z
      rw [Int32.lt_iff_toInt_lt] at h1 h2 z
      omega
    obtain ⟨j, hj, e⟩ := nI_of2 (M := 511) (n := 511) (by decide) h4 (Int32.not_lt.mp h3)
    obtain ⟨i, hi, e2⟩ := nI_of h1
    subst e e2
    refine ⟨true, i, j, if_neg h, fun _ => ⟨rfl, rfl, ?_, by omega⟩, fun z => absurd rfl z⟩
    rw [nI_ltI (by omega) hi] at h2
    omega
theorem rc_lawOf (p0 p1 p2 p3 p4 : Int32) (hp : post 1 ()) : wpL_lawOf post 8 208 () p0 p1 p2 p3 p4 := by
  refine ⟨by omega, by omega, 7, 200, by omega, by omega, ?_⟩
  refine ⟨by omega, by omega, by omega, by omega, by omega, by omega, by omega, by omega, by omega, by omega, by omega, by omega, by omega, by omega, ?_⟩
  refine ⟨fun h1 => rc_n23 hp (fun z => z.1 h1), fun h1 => ⟨fun h2 => rc_n23 hp (fun z => z.2 h2), fun h2 => ?_⟩⟩
  obtain ⟨s, hs, e⟩ := nI_of2 (M := 2) (n := 2) (by decide) h1 (Int32.not_lt.mp h2)
  obtain ⟨gn, N, q1, q2, q3⟩ := rc_gn p1
  obtain ⟨gr, f, l, r1, r2, r3⟩ := rc_gr p2 p3
  subst e
  refine rc_l23 (rc_l41 ?_)
  rw [q1, r1]
  exact rc_g64 hp (by omega) ⟨q2, r2⟩ q3 r3
theorem rc_cell {P : Int32 → Prop} {L : Nat} {xs : Nat → Int32} (i : Nat) (hL : L ≤ 5) (hi : i < 5) (H : ∀ r, P r) : wpL_cellAt P L xs () (nI i) :=
  pk_le L i (fun _ => H _) (fun z => ⟨pk_in i L z, H _⟩)
end
theorem i_vc (xs : Nat → Int32) (L : Nat) (hL : L ≤ 5) : wpL_law (fun r => r = 1) L xs :=
  rc_cell 0 hL (by omega) (fun r1 => rc_cell 1 hL (by omega) (fun r2 => rc_cell 2 hL (by omega) (fun r3 => rc_cell 3 hL (by omega) (fun r4 => rc_cell 4 hL (by omega) (fun r5 => ⟨8, 208, by omega, by omega, rc_lawOf r1 r2 r3 r4 r5 rfl⟩)))))
end
