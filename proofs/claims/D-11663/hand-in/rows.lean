section
/-! ===== a long as a natural (rows of the kit's BITS text, turned) ===== -/
def qa_u (x : Int64) : Nat := x.toUInt64.toNat
theorem qa_u_lt (x : Int64) : qa_u x < 18446744073709551616 := x.toUInt64.toNat_lt
theorem qa_u_inj {x y : Int64} (h : qa_u x = qa_u y) : x = y := congrArg UInt64.toInt64 (UInt64.toNat_inj.mp h)
theorem qa_u_add (x y : Int64) : qa_u (x + y) = (qa_u x + qa_u y) % 18446744073709551616 := by
  show (x.toUInt64 + y.toUInt64).toNat = _
  exact UInt64.toNat_add _ _
theorem qa_u_sub (x y : Int64) : qa_u (x - y) = (18446744073709551616 - qa_u y + qa_u x) % 18446744073709551616 := by
  show (x.toUInt64 - y.toUInt64).toNat = _
  exact UInt64.toNat_sub _ _
theorem qa_u_mul (x y : Int64) : qa_u (x * y) = (qa_u x * qa_u y) % 18446744073709551616 := by
  show (x.toUInt64 * y.toUInt64).toNat = _
  exact UInt64.toNat_mul _ _
theorem qa_u_and (x y : Int64) : qa_u (x &&& y) = qa_u x &&& qa_u y := UInt64.toNat_and _ _
theorem qa_u_or (x y : Int64) : qa_u (x ||| y) = qa_u x ||| qa_u y := UInt64.toNat_or _ _
theorem qa_u_xor (x y : Int64) : qa_u (x ^^^ y) = qa_u x ^^^ qa_u y := UInt64.toNat_xor _ _
theorem qa_u_shr (x : Int64) {s : UInt64} (k : Nat) (hs : s.toNat % 64 = k) : qa_u (x.toUInt64 >>> s).toInt64 = qa_u x / 2 ^ k := by
  show (x.toUInt64 >>> s).toNat = _
  rw [UInt64.toNat_shiftRight, Nat.shiftRight_eq_div_pow, hs]
  rfl
theorem qa_u_shl (x : Int64) {s : Int64} (k : Nat) (hs : (s.toBitVec.smod 64).toNat = k) : qa_u (x <<< s) = (qa_u x * 2 ^ k) % 18446744073709551616 := by
  show (x.toBitVec <<< (s.toBitVec.smod 64).toNat).toNat = _
  rw [hs, BitVec.toNat_shiftLeft, Nat.shiftLeft_eq]
  rfl
theorem qa_u_lN {n : Nat} (h : n < 18446744073709551616) : qa_u (lN n) = n := Nat.mod_eq_of_lt h
theorem qa_lN_u (x : Int64) : x = lN (qa_u x) := qa_u_inj (qa_u_lN (qa_u_lt x)).symm
/-! ===== eight bytes ===== -/
def qa_H (b0 b1 b2 b3 b4 b5 b6 b7 : Nat) : Nat := b0 + 256 * (b1 + 256 * (b2 + 256 * (b3 + 256 * (b4 + 256 * (b5 + 256 * (b6 + 256 * b7))))))
theorem qa_and2 {a m : Nat} (ha : a < 256) (hm : m < 256) (b k : Nat) : (a + 256 * b) &&& (m + 256 * k) = (a &&& m) + 256 * (b &&& k) := by
  have h1 : ((a + 256 * b) &&& (m + 256 * k)) % 2 ^ 8 = a &&& m := by
    rw [Nat.and_mod_two_pow, show (a + 256 * b) % 2 ^ 8 = a by omega, show (m + 256 * k) % 2 ^ 8 = m by omega]
  have h2 : ((a + 256 * b) &&& (m + 256 * k)) / 2 ^ 8 = b &&& k := by
    rw [Nat.and_div_two_pow, show (a + 256 * b) / 2 ^ 8 = b by omega, show (m + 256 * k) / 2 ^ 8 = k by omega]
  generalize (a + 256 * b) &&& (m + 256 * k) = t at h1 h2 ⊢
  generalize a &&& m = u at h1 h2 ⊢
  generalize b &&& k = v at h1 h2 ⊢
  omega
theorem qa_and8 {b0 b1 b2 b3 b4 b5 b6 b7 : Nat} (m : Nat) (hm : m < 256) (h0 : b0 < 256) (h1 : b1 < 256) (h2 : b2 < 256) (h3 : b3 < 256) (h4 : b4 < 256) (h5 : b5 < 256) (h6 : b6 < 256) : qa_H b0 b1 b2 b3 b4 b5 b6 b7 &&& qa_H m m m m m m m m = qa_H (b0 &&& m) (b1 &&& m) (b2 &&& m) (b3 &&& m) (b4 &&& m) (b5 &&& m) (b6 &&& m) (b7 &&& m) := by
  unfold qa_H
  rw [qa_and2 h0 hm, qa_and2 h1 hm, qa_and2 h2 hm, qa_and2 h3 hm, qa_and2 h4 hm, qa_and2 h5 hm, qa_and2 h6 hm]
theorem qa_sh1 (b0 b1 b2 b3 b4 b5 b6 b7 : Nat) : qa_H b0 b1 b2 b3 b4 b5 b6 b7 / 2 = qa_H (b0 / 2 + 128 * (b1 % 2)) (b1 / 2 + 128 * (b2 % 2)) (b2 / 2 + 128 * (b3 % 2)) (b3 / 2 + 128 * (b4 % 2)) (b4 / 2 + 128 * (b5 % 2)) (b5 / 2 + 128 * (b6 % 2)) (b6 / 2 + 128 * (b7 % 2)) (b7 / 2) := by
  unfold qa_H
  omega
theorem qa_sh2 (b0 b1 b2 b3 b4 b5 b6 b7 : Nat) : qa_H b0 b1 b2 b3 b4 b5 b6 b7 / 4 = qa_H (b0 / 4 + 64 * (b1 % 4)) (b1 / 4 + 64 * (b2 % 4)) (b2 / 4 + 64 * (b3 % 4)) (b3 / 4 + 64 * (b4 % 4)) (b4 / 4 + 64 * (b5 % 4)) (b5 / 4 + 64 * (b6 % 4)) (b6 / 4 + 64 * (b7 % 4)) (b7 / 4) := by
  unfold qa_H
  omega
theorem qa_sh4 (b0 b1 b2 b3 b4 b5 b6 b7 : Nat) : qa_H b0 b1 b2 b3 b4 b5 b6 b7 / 16 = qa_H (b0 / 16 + 16 * (b1 % 16)) (b1 / 16 + 16 * (b2 % 16)) (b2 / 16 + 16 * (b3 % 16)) (b3 / 16 + 16 * (b4 % 16)) (b4 / 16 + 16 * (b5 % 16)) (b5 / 16 + 16 * (b6 % 16)) (b6 / 16 + 16 * (b7 % 16)) (b7 / 16) := by
  unfold qa_H
  omega
theorem qa_Hadd (b0 b1 b2 b3 b4 b5 b6 b7 c0 c1 c2 c3 c4 c5 c6 c7 : Nat) : qa_H b0 b1 b2 b3 b4 b5 b6 b7 + qa_H c0 c1 c2 c3 c4 c5 c6 c7 = qa_H (b0 + c0) (b1 + c1) (b2 + c2) (b3 + c3) (b4 + c4) (b5 + c5) (b6 + c6) (b7 + c7) := by
  unfold qa_H
  omega
theorem qa_Hlt {b0 b1 b2 b3 b4 b5 b6 b7 : Nat} (h0 : b0 < 256) (h1 : b1 < 256) (h2 : b2 < 256) (h3 : b3 < 256) (h4 : b4 < 256) (h5 : b5 < 256) (h6 : b6 < 256) (h7 : b7 < 256) : qa_H b0 b1 b2 b3 b4 b5 b6 b7 < 18446744073709551616 := by
  unfold qa_H
  omega
theorem qa_Hmul {b0 b1 b2 b3 b4 b5 b6 b7 : Nat} (h0 : b0 ≤ 8) (h1 : b1 ≤ 8) (h2 : b2 ≤ 8) (h3 : b3 ≤ 8) (h4 : b4 ≤ 8) (h5 : b5 ≤ 8) (h6 : b6 ≤ 8) (h7 : b7 ≤ 8) : (qa_H b0 b1 b2 b3 b4 b5 b6 b7 * 72340172838076673) % 18446744073709551616 / 2 ^ 56 = b0 + b1 + b2 + b3 + b4 + b5 + b6 + b7 := by
  have e : qa_H b0 b1 b2 b3 b4 b5 b6 b7 * 72340172838076673 = 18446744073709551616 * (1 * (b1 + b2 + b3 + b4 + b5 + b6 + b7) + 256 * (b2 + b3 + b4 + b5 + b6 + b7) + 65536 * (b3 + b4 + b5 + b6 + b7) + 16777216 * (b4 + b5 + b6 + b7) + 4294967296 * (b5 + b6 + b7) + 1099511627776 * (b6 + b7) + 281474976710656 * (b7)) + (72057594037927936 * (b0 + b1 + b2 + b3 + b4 + b5 + b6 + b7) + (1 * (b0) + 256 * (b0 + b1) + 65536 * (b0 + b1 + b2) + 16777216 * (b0 + b1 + b2 + b3) + 4294967296 * (b0 + b1 + b2 + b3 + b4) + 1099511627776 * (b0 + b1 + b2 + b3 + b4 + b5) + 281474976710656 * (b0 + b1 + b2 + b3 + b4 + b5 + b6))) := by
    unfold qa_H
    omega
  have l : 1 * (b0) + 256 * (b0 + b1) + 65536 * (b0 + b1 + b2) + 16777216 * (b0 + b1 + b2 + b3) + 4294967296 * (b0 + b1 + b2 + b3 + b4) + 1099511627776 * (b0 + b1 + b2 + b3 + b4 + b5) + 281474976710656 * (b0 + b1 + b2 + b3 + b4 + b5 + b6) < 72057594037927936 := by omega
  have l2 : b0 + b1 + b2 + b3 + b4 + b5 + b6 + b7 < 256 := by omega
  rw [e]
  generalize 1 * (b0) + 256 * (b0 + b1) + 65536 * (b0 + b1 + b2) + 16777216 * (b0 + b1 + b2 + b3) + 4294967296 * (b0 + b1 + b2 + b3 + b4) + 1099511627776 * (b0 + b1 + b2 + b3 + b4 + b5) + 281474976710656 * (b0 + b1 + b2 + b3 + b4 + b5 + b6) = r at l ⊢
  generalize 1 * (b1 + b2 + b3 + b4 + b5 + b6 + b7) + 256 * (b2 + b3 + b4 + b5 + b6 + b7) + 65536 * (b3 + b4 + b5 + b6 + b7) + 16777216 * (b4 + b5 + b6 + b7) + 4294967296 * (b5 + b6 + b7) + 1099511627776 * (b6 + b7) + 281474976710656 * (b7) = y
  generalize b0 + b1 + b2 + b3 + b4 + b5 + b6 + b7 = s at l2 ⊢
  omega
theorem qa_bytes {n : Nat} (h : n < 18446744073709551616) : n = qa_H (n % 2 ^ 8) (n / 2 ^ 8 % 2 ^ 8) (n / 2 ^ 16 % 2 ^ 8) (n / 2 ^ 24 % 2 ^ 8) (n / 2 ^ 32 % 2 ^ 8) (n / 2 ^ 40 % 2 ^ 8) (n / 2 ^ 48 % 2 ^ 8) (n / 2 ^ 56 % 2 ^ 8) := by
  have s0 : n = n % 2 ^ 8 + 256 * (n / 2 ^ 8) := by omega
  have s1 : n / 2 ^ 8 = n / 2 ^ 8 % 2 ^ 8 + 256 * (n / 2 ^ 16) := by omega
  have s2 : n / 2 ^ 16 = n / 2 ^ 16 % 2 ^ 8 + 256 * (n / 2 ^ 24) := by omega
  have s3 : n / 2 ^ 24 = n / 2 ^ 24 % 2 ^ 8 + 256 * (n / 2 ^ 32) := by omega
  have s4 : n / 2 ^ 32 = n / 2 ^ 32 % 2 ^ 8 + 256 * (n / 2 ^ 40) := by omega
  have s5 : n / 2 ^ 40 = n / 2 ^ 40 % 2 ^ 8 + 256 * (n / 2 ^ 48) := by omega
  have s6 : n / 2 ^ 48 = n / 2 ^ 48 % 2 ^ 8 + 256 * (n / 2 ^ 56) := by omega
  have s7 : n / 2 ^ 56 = n / 2 ^ 56 % 2 ^ 8 := by omega
  unfold qa_H
  rw [← s7, ← s6, ← s5, ← s4, ← s3, ← s2, ← s1, ← s0]
theorem qa_sum8 {x0 x1 x2 x3 x4 x5 x6 x7 y0 y1 y2 y3 y4 y5 y6 y7 u0 u1 u2 u3 u4 u5 u6 u7 v0 v1 v2 v3 v4 v5 v6 v7 : Nat} (h0 : x0 + 2 * y0 = u0 + v0) (h1 : x1 + 2 * y1 = u1 + v1) (h2 : x2 + 2 * y2 = u2 + v2) (h3 : x3 + 2 * y3 = u3 + v3) (h4 : x4 + 2 * y4 = u4 + v4) (h5 : x5 + 2 * y5 = u5 + v5) (h6 : x6 + 2 * y6 = u6 + v6) (h7 : x7 + 2 * y7 = u7 + v7) : x0 + x1 + x2 + x3 + x4 + x5 + x6 + x7 + 2 * (y0 + y1 + y2 + y3 + y4 + y5 + y6 + y7) = u0 + u1 + u2 + u3 + u4 + u5 + u6 + u7 + (v0 + v1 + v2 + v3 + v4 + v5 + v6 + v7) := by
  omega
/-! ===== one byte ===== -/
def qa_d (b : Nat) : Nat := b - (b / 2 &&& 85)
def qa_e (t : Nat) : Nat := (t &&& 51) + (t / 4 &&& 51)
def qa_f (u : Nat) : Nat := (u + u / 16) &&& 15
def qa_t (b : Nat) : Nat := qa_f (qa_e (qa_d b))
theorem qa_t1 : ∀ b, b < 256 → ∀ c, c < 2 → (b / 2 + 128 * c) &&& 85 = b / 2 &&& 85 := by decide +kernel
theorem qa_t1' : ∀ b, b < 256 → (b / 2 &&& 85) + qa_d b = b ∧ qa_d b < 256 := by decide +kernel
theorem qa_t2 : ∀ b, b < 256 → ∀ c, c < 4 → (b / 4 + 64 * c) &&& 51 = b / 4 &&& 51 := by decide +kernel
theorem qa_t3 : ∀ b, b < 256 → qa_e (qa_d b) % 16 ≤ 4 ∧ qa_e (qa_d b) / 16 ≤ 4 ∧ qa_t b ≤ 8 := by decide +kernel
theorem qa_t4 : ∀ u, u < 256 → ∀ c, c < 16 → u % 16 ≤ 4 → u / 16 ≤ 4 → (u + (u / 16 + 16 * c)) &&& 15 = qa_f u := by decide +kernel
theorem qa_bits : ∀ b, b < 256 → qa_t b = b / 2 ^ 0 % 2 + b / 2 ^ 1 % 2 + b / 2 ^ 2 % 2 + b / 2 ^ 3 % 2 + b / 2 ^ 4 % 2 + b / 2 ^ 5 % 2 + b / 2 ^ 6 % 2 + b / 2 ^ 7 % 2 := by decide +kernel
theorem qa_bit (a b i : Nat) : (a ^^^ b) / 2 ^ i % 2 + 2 * ((a &&& b) / 2 ^ i % 2) = a / 2 ^ i % 2 + b / 2 ^ i % 2 := by
  rw [← Nat.toNat_testBit, ← Nat.toNat_testBit, ← Nat.toNat_testBit, ← Nat.toNat_testBit, Nat.testBit_xor, Nat.testBit_and]
  cases a.testBit i <;> cases b.testBit i <;> rfl
theorem qa_t_law {a b : Nat} (ha : a < 2 ^ 8) (hb : b < 2 ^ 8) : qa_t (a ^^^ b) + 2 * qa_t (a &&& b) = qa_t a + qa_t b := by
  rw [qa_bits _ (Nat.xor_lt_two_pow ha hb), qa_bits _ (Nat.and_lt_two_pow a hb), qa_bits a ha, qa_bits b hb]
  have h0 := qa_bit a b 0
  have h1 := qa_bit a b 1
  have h2 := qa_bit a b 2
  have h3 := qa_bit a b 3
  have h4 := qa_bit a b 4
  have h5 := qa_bit a b 5
  have h6 := qa_bit a b 6
  have h7 := qa_bit a b 7
  exact qa_sum8 h0 h1 h2 h3 h4 h5 h6 h7
theorem qa_l1 {b : Nat} (c : Nat) (h : b < 256) : b / 2 + 128 * (c % 2) < 256 := by omega
theorem qa_l2 {b : Nat} (c : Nat) (h : b < 256) : b / 4 + 64 * (c % 4) < 256 := by omega
theorem qa_l4 {u c : Nat} (h : u % 16 ≤ 4) (h' : u / 16 ≤ 4) (h'' : c % 16 ≤ 4) : u + (u / 16 + 16 * (c % 16)) < 256 := by omega
theorem qa_l5 {u : Nat} (h' : u / 16 ≤ 4) : u + u / 16 < 256 ∧ u < 256 := by omega
theorem qa_l6 {u : Nat} (h : u ≤ 8) : u < 256 := by omega
theorem qa_o1 {t n m : Nat} (h : t + m = n) (hn : n < 18446744073709551616) : (18446744073709551616 - t + n) % 18446744073709551616 = m ∧ m < 18446744073709551616 := by omega
theorem qa_o2 {n m : Nat} (h : m + n < 18446744073709551616) : m % 18446744073709551616 = m ∧ m < 18446744073709551616 := by omega
theorem qa_o3 {n s : Nat} (h : n % 18446744073709551616 / 2 ^ 56 = s) : s < 18446744073709551616 := by omega
/-! ===== the count of a word ===== -/
def qa_cnt (n : Nat) : Nat := qa_t (n % 2 ^ 8) + qa_t (n / 2 ^ 8 % 2 ^ 8) + qa_t (n / 2 ^ 16 % 2 ^ 8) + qa_t (n / 2 ^ 24 % 2 ^ 8) + qa_t (n / 2 ^ 32 % 2 ^ 8) + qa_t (n / 2 ^ 40 % 2 ^ 8) + qa_t (n / 2 ^ 48 % 2 ^ 8) + qa_t (n / 2 ^ 56 % 2 ^ 8)
theorem qa_cnt_0 : qa_cnt 0 = 0 := by decide
theorem qa_cnt_law (a b : Nat) : qa_cnt (a ^^^ b) + 2 * qa_cnt (a &&& b) = qa_cnt a + qa_cnt b := by
  unfold qa_cnt
  simp only [Nat.xor_div_two_pow, Nat.xor_mod_two_pow, Nat.and_div_two_pow, Nat.and_mod_two_pow]
  have h0 := qa_t_law (a := a % 2 ^ 8) (b := b % 2 ^ 8) (Nat.mod_lt _ (by decide)) (Nat.mod_lt _ (by decide))
  have h1 := qa_t_law (a := a / 2 ^ 8 % 2 ^ 8) (b := b / 2 ^ 8 % 2 ^ 8) (Nat.mod_lt _ (by decide)) (Nat.mod_lt _ (by decide))
  have h2 := qa_t_law (a := a / 2 ^ 16 % 2 ^ 8) (b := b / 2 ^ 16 % 2 ^ 8) (Nat.mod_lt _ (by decide)) (Nat.mod_lt _ (by decide))
  have h3 := qa_t_law (a := a / 2 ^ 24 % 2 ^ 8) (b := b / 2 ^ 24 % 2 ^ 8) (Nat.mod_lt _ (by decide)) (Nat.mod_lt _ (by decide))
  have h4 := qa_t_law (a := a / 2 ^ 32 % 2 ^ 8) (b := b / 2 ^ 32 % 2 ^ 8) (Nat.mod_lt _ (by decide)) (Nat.mod_lt _ (by decide))
  have h5 := qa_t_law (a := a / 2 ^ 40 % 2 ^ 8) (b := b / 2 ^ 40 % 2 ^ 8) (Nat.mod_lt _ (by decide)) (Nat.mod_lt _ (by decide))
  have h6 := qa_t_law (a := a / 2 ^ 48 % 2 ^ 8) (b := b / 2 ^ 48 % 2 ^ 8) (Nat.mod_lt _ (by decide)) (Nat.mod_lt _ (by decide))
  have h7 := qa_t_law (a := a / 2 ^ 56 % 2 ^ 8) (b := b / 2 ^ 56 % 2 ^ 8) (Nat.mod_lt _ (by decide)) (Nat.mod_lt _ (by decide))
  exact qa_sum8 h0 h1 h2 h3 h4 h5 h6 h7
theorem qa_swar8 {b0 b1 b2 b3 b4 b5 b6 b7 : Nat} (h0 : b0 < 256) (h1 : b1 < 256) (h2 : b2 < 256) (h3 : b3 < 256) (h4 : b4 < 256) (h5 : b5 < 256) (h6 : b6 < 256) (h7 : b7 < 256) : ∃ n1 n2 n3 : Nat, (qa_H b0 b1 b2 b3 b4 b5 b6 b7 / 2 &&& 6148914691236517205) + n1 = qa_H b0 b1 b2 b3 b4 b5 b6 b7 ∧ (n1 &&& 3689348814741910323) + (n1 / 4 &&& 3689348814741910323) = n2 ∧ n2 + n2 / 16 < 18446744073709551616 ∧ ((n2 + n2 / 16) &&& 1085102592571150095) = n3 ∧ n3 < 18446744073709551616 ∧ (n3 * 72340172838076673) % 18446744073709551616 / 2 ^ 56 = qa_t b0 + qa_t b1 + qa_t b2 + qa_t b3 + qa_t b4 + qa_t b5 + qa_t b6 + qa_t b7 := by
  have p0 := qa_t1' b0 h0
  have p1 := qa_t1' b1 h1
  have p2 := qa_t1' b2 h2
  have p3 := qa_t1' b3 h3
  have p4 := qa_t1' b4 h4
  have p5 := qa_t1' b5 h5
  have p6 := qa_t1' b6 h6
  have p7 := qa_t1' b7 h7
  have q0 := qa_t3 b0 h0
  have q1 := qa_t3 b1 h1
  have q2 := qa_t3 b2 h2
  have q3 := qa_t3 b3 h3
  have q4 := qa_t3 b4 h4
  have q5 := qa_t3 b5 h5
  have q6 := qa_t3 b6 h6
  have q7 := qa_t3 b7 h7
  have e1 : qa_H b0 b1 b2 b3 b4 b5 b6 b7 / 2 &&& 6148914691236517205 = qa_H (b0 / 2 &&& 85) (b1 / 2 &&& 85) (b2 / 2 &&& 85) (b3 / 2 &&& 85) (b4 / 2 &&& 85) (b5 / 2 &&& 85) (b6 / 2 &&& 85) (b7 / 2 &&& 85) := by
    rw [qa_sh1, show (6148914691236517205 : Nat) = qa_H 85 85 85 85 85 85 85 85 from by decide, qa_and8 85 (by decide) (qa_l1 b1 h0) (qa_l1 b2 h1) (qa_l1 b3 h2) (qa_l1 b4 h3) (qa_l1 b5 h4) (qa_l1 b6 h5) (qa_l1 b7 h6), qa_t1 b0 h0 (b1 % 2) (Nat.mod_lt _ (by decide)), qa_t1 b1 h1 (b2 % 2) (Nat.mod_lt _ (by decide)), qa_t1 b2 h2 (b3 % 2) (Nat.mod_lt _ (by decide)), qa_t1 b3 h3 (b4 % 2) (Nat.mod_lt _ (by decide)), qa_t1 b4 h4 (b5 % 2) (Nat.mod_lt _ (by decide)), qa_t1 b5 h5 (b6 % 2) (Nat.mod_lt _ (by decide)), qa_t1 b6 h6 (b7 % 2) (Nat.mod_lt _ (by decide))]
  have e2 : qa_H (qa_d b0) (qa_d b1) (qa_d b2) (qa_d b3) (qa_d b4) (qa_d b5) (qa_d b6) (qa_d b7) / 4 &&& 3689348814741910323 = qa_H (qa_d b0 / 4 &&& 51) (qa_d b1 / 4 &&& 51) (qa_d b2 / 4 &&& 51) (qa_d b3 / 4 &&& 51) (qa_d b4 / 4 &&& 51) (qa_d b5 / 4 &&& 51) (qa_d b6 / 4 &&& 51) (qa_d b7 / 4 &&& 51) := by
    rw [qa_sh2, show (3689348814741910323 : Nat) = qa_H 51 51 51 51 51 51 51 51 from by decide, qa_and8 51 (by decide) (qa_l2 (qa_d b1) p0.2) (qa_l2 (qa_d b2) p1.2) (qa_l2 (qa_d b3) p2.2) (qa_l2 (qa_d b4) p3.2) (qa_l2 (qa_d b5) p4.2) (qa_l2 (qa_d b6) p5.2) (qa_l2 (qa_d b7) p6.2), qa_t2 (qa_d b0) p0.2 (qa_d b1 % 4) (Nat.mod_lt _ (by decide)), qa_t2 (qa_d b1) p1.2 (qa_d b2 % 4) (Nat.mod_lt _ (by decide)), qa_t2 (qa_d b2) p2.2 (qa_d b3 % 4) (Nat.mod_lt _ (by decide)), qa_t2 (qa_d b3) p3.2 (qa_d b4 % 4) (Nat.mod_lt _ (by decide)), qa_t2 (qa_d b4) p4.2 (qa_d b5 % 4) (Nat.mod_lt _ (by decide)), qa_t2 (qa_d b5) p5.2 (qa_d b6 % 4) (Nat.mod_lt _ (by decide)), qa_t2 (qa_d b6) p6.2 (qa_d b7 % 4) (Nat.mod_lt _ (by decide))]
  have e3 : qa_H (qa_d b0) (qa_d b1) (qa_d b2) (qa_d b3) (qa_d b4) (qa_d b5) (qa_d b6) (qa_d b7) &&& 3689348814741910323 = qa_H (qa_d b0 &&& 51) (qa_d b1 &&& 51) (qa_d b2 &&& 51) (qa_d b3 &&& 51) (qa_d b4 &&& 51) (qa_d b5 &&& 51) (qa_d b6 &&& 51) (qa_d b7 &&& 51) := by
    rw [show (3689348814741910323 : Nat) = qa_H 51 51 51 51 51 51 51 51 from by decide, qa_and8 51 (by decide) p0.2 p1.2 p2.2 p3.2 p4.2 p5.2 p6.2]
  have e4 : qa_H (qa_e (qa_d b0)) (qa_e (qa_d b1)) (qa_e (qa_d b2)) (qa_e (qa_d b3)) (qa_e (qa_d b4)) (qa_e (qa_d b5)) (qa_e (qa_d b6)) (qa_e (qa_d b7)) + qa_H (qa_e (qa_d b0)) (qa_e (qa_d b1)) (qa_e (qa_d b2)) (qa_e (qa_d b3)) (qa_e (qa_d b4)) (qa_e (qa_d b5)) (qa_e (qa_d b6)) (qa_e (qa_d b7)) / 16 = qa_H (qa_e (qa_d b0) + (qa_e (qa_d b0) / 16 + 16 * (qa_e (qa_d b1) % 16))) (qa_e (qa_d b1) + (qa_e (qa_d b1) / 16 + 16 * (qa_e (qa_d b2) % 16))) (qa_e (qa_d b2) + (qa_e (qa_d b2) / 16 + 16 * (qa_e (qa_d b3) % 16))) (qa_e (qa_d b3) + (qa_e (qa_d b3) / 16 + 16 * (qa_e (qa_d b4) % 16))) (qa_e (qa_d b4) + (qa_e (qa_d b4) / 16 + 16 * (qa_e (qa_d b5) % 16))) (qa_e (qa_d b5) + (qa_e (qa_d b5) / 16 + 16 * (qa_e (qa_d b6) % 16))) (qa_e (qa_d b6) + (qa_e (qa_d b6) / 16 + 16 * (qa_e (qa_d b7) % 16))) (qa_e (qa_d b7) + qa_e (qa_d b7) / 16) := by
    rw [qa_sh4, qa_Hadd]
  have e5 : qa_H (qa_e (qa_d b0) + (qa_e (qa_d b0) / 16 + 16 * (qa_e (qa_d b1) % 16))) (qa_e (qa_d b1) + (qa_e (qa_d b1) / 16 + 16 * (qa_e (qa_d b2) % 16))) (qa_e (qa_d b2) + (qa_e (qa_d b2) / 16 + 16 * (qa_e (qa_d b3) % 16))) (qa_e (qa_d b3) + (qa_e (qa_d b3) / 16 + 16 * (qa_e (qa_d b4) % 16))) (qa_e (qa_d b4) + (qa_e (qa_d b4) / 16 + 16 * (qa_e (qa_d b5) % 16))) (qa_e (qa_d b5) + (qa_e (qa_d b5) / 16 + 16 * (qa_e (qa_d b6) % 16))) (qa_e (qa_d b6) + (qa_e (qa_d b6) / 16 + 16 * (qa_e (qa_d b7) % 16))) (qa_e (qa_d b7) + qa_e (qa_d b7) / 16) &&& 1085102592571150095 = qa_H (qa_t b0) (qa_t b1) (qa_t b2) (qa_t b3) (qa_t b4) (qa_t b5) (qa_t b6) (qa_t b7) := by
    rw [show (1085102592571150095 : Nat) = qa_H 15 15 15 15 15 15 15 15 from by decide, qa_and8 15 (by decide) (qa_l4 q0.1 q0.2.1 q1.1) (qa_l4 q1.1 q1.2.1 q2.1) (qa_l4 q2.1 q2.2.1 q3.1) (qa_l4 q3.1 q3.2.1 q4.1) (qa_l4 q4.1 q4.2.1 q5.1) (qa_l4 q5.1 q5.2.1 q6.1) (qa_l4 q6.1 q6.2.1 q7.1), qa_t4 (qa_e (qa_d b0)) (qa_l5 q0.2.1).2 (qa_e (qa_d b1) % 16) (Nat.mod_lt _ (by decide)) q0.1 q0.2.1, qa_t4 (qa_e (qa_d b1)) (qa_l5 q1.2.1).2 (qa_e (qa_d b2) % 16) (Nat.mod_lt _ (by decide)) q1.1 q1.2.1, qa_t4 (qa_e (qa_d b2)) (qa_l5 q2.2.1).2 (qa_e (qa_d b3) % 16) (Nat.mod_lt _ (by decide)) q2.1 q2.2.1, qa_t4 (qa_e (qa_d b3)) (qa_l5 q3.2.1).2 (qa_e (qa_d b4) % 16) (Nat.mod_lt _ (by decide)) q3.1 q3.2.1, qa_t4 (qa_e (qa_d b4)) (qa_l5 q4.2.1).2 (qa_e (qa_d b5) % 16) (Nat.mod_lt _ (by decide)) q4.1 q4.2.1, qa_t4 (qa_e (qa_d b5)) (qa_l5 q5.2.1).2 (qa_e (qa_d b6) % 16) (Nat.mod_lt _ (by decide)) q5.1 q5.2.1, qa_t4 (qa_e (qa_d b6)) (qa_l5 q6.2.1).2 (qa_e (qa_d b7) % 16) (Nat.mod_lt _ (by decide)) q6.1 q6.2.1]
    rfl
  refine ⟨qa_H (qa_d b0) (qa_d b1) (qa_d b2) (qa_d b3) (qa_d b4) (qa_d b5) (qa_d b6) (qa_d b7), qa_H (qa_e (qa_d b0)) (qa_e (qa_d b1)) (qa_e (qa_d b2)) (qa_e (qa_d b3)) (qa_e (qa_d b4)) (qa_e (qa_d b5)) (qa_e (qa_d b6)) (qa_e (qa_d b7)), qa_H (qa_t b0) (qa_t b1) (qa_t b2) (qa_t b3) (qa_t b4) (qa_t b5) (qa_t b6) (qa_t b7), ?_, ?_, ?_, ?_, ?_, ?_⟩
  · rw [e1, qa_Hadd, p0.1, p1.1, p2.1, p3.1, p4.1, p5.1, p6.1, p7.1]
  · rw [e2, e3, qa_Hadd]
    rfl
  · rw [e4]
    exact qa_Hlt (qa_l4 q0.1 q0.2.1 q1.1) (qa_l4 q1.1 q1.2.1 q2.1) (qa_l4 q2.1 q2.2.1 q3.1) (qa_l4 q3.1 q3.2.1 q4.1) (qa_l4 q4.1 q4.2.1 q5.1) (qa_l4 q5.1 q5.2.1 q6.1) (qa_l4 q6.1 q6.2.1 q7.1) (qa_l5 q7.2.1).1
  · rw [e4, e5]
  · exact qa_Hlt (qa_l6 q0.2.2) (qa_l6 q1.2.2) (qa_l6 q2.2.2) (qa_l6 q3.2.2) (qa_l6 q4.2.2) (qa_l6 q5.2.2) (qa_l6 q6.2.2) (qa_l6 q7.2.2)
  · exact qa_Hmul q0.2.2 q1.2.2 q2.2.2 q3.2.2 q4.2.2 q5.2.2 q6.2.2 q7.2.2
theorem qa_swar {n : Nat} (hn : n < 18446744073709551616) : ∃ n1 n2 n3 : Nat, (n / 2 &&& 6148914691236517205) + n1 = n ∧ (n1 &&& 3689348814741910323) + (n1 / 4 &&& 3689348814741910323) = n2 ∧ n2 + n2 / 16 < 18446744073709551616 ∧ ((n2 + n2 / 16) &&& 1085102592571150095) = n3 ∧ n3 < 18446744073709551616 ∧ (n3 * 72340172838076673) % 18446744073709551616 / 2 ^ 56 = qa_cnt n := by
  have h := qa_swar8 (b0 := n % 2 ^ 8) (b1 := n / 2 ^ 8 % 2 ^ 8) (b2 := n / 2 ^ 16 % 2 ^ 8) (b3 := n / 2 ^ 24 % 2 ^ 8) (b4 := n / 2 ^ 32 % 2 ^ 8) (b5 := n / 2 ^ 40 % 2 ^ 8) (b6 := n / 2 ^ 48 % 2 ^ 8) (b7 := n / 2 ^ 56 % 2 ^ 8) (Nat.mod_lt _ (by decide)) (Nat.mod_lt _ (by decide)) (Nat.mod_lt _ (by decide)) (Nat.mod_lt _ (by decide)) (Nat.mod_lt _ (by decide)) (Nat.mod_lt _ (by decide)) (Nat.mod_lt _ (by decide)) (Nat.mod_lt _ (by decide))
  rw [← qa_bytes hn] at h
  exact h
theorem qa_ones {post : Int32 → Prop} {u : St0} {x : Int64} (h : post (nI (qa_cnt (qa_u x)))) : wpX_ones post u x := by
  have hx := qa_u_lt x
  obtain ⟨n1, n2, n3, e1, e2, e3, e4, e5, e6⟩ := qa_swar hx
  have k5 : qa_u 6148914691236517205 = 6148914691236517205 := by decide
  have k3 : qa_u 3689348814741910323 = 3689348814741910323 := by decide
  have kf : qa_u 1085102592571150095 = 1085102592571150095 := by decide
  have kc : qa_u 72340172838076673 = 72340172838076673 := by decide
  have l1 := (qa_o1 e1 hx).2
  have l2 := (qa_o2 e3).2
  unfold wpX_ones
  refine nm_r (e' := lN n1) (qa_u_inj ?_) (nm_r (e' := lN n2) (qa_u_inj ?_) (nm_r (e' := lN n3) (qa_u_inj ?_) ?_))
  · rw [qa_u_sub, qa_u_and, qa_u_shr _ 1 (by decide), k5, qa_u_lN l1]
    show (18446744073709551616 - (qa_u x / 2 &&& 6148914691236517205) + qa_u x) % 18446744073709551616 = n1
    exact (qa_o1 e1 hx).1
  · rw [qa_u_add, qa_u_and, qa_u_and, qa_u_shr _ 2 (by decide), k3, qa_u_lN l1, qa_u_lN l2]
    show ((n1 &&& 3689348814741910323) + (n1 / 4 &&& 3689348814741910323)) % 18446744073709551616 = n2
    rw [e2]
    exact (qa_o2 e3).1
  · rw [qa_u_and, qa_u_add, qa_u_shr _ 4 (by decide), kf, qa_u_lN l2, qa_u_lN e5]
    show ((n2 + n2 / 16) % 18446744073709551616) &&& 1085102592571150095 = n3
    rw [Nat.mod_eq_of_lt e3, e4]
  · have g : ((lN n3 * 72340172838076673).toUInt64 >>> ((56 : Int32).toInt64.toUInt64 &&& Int64.toUInt64 63)).toInt64 = lN (qa_cnt (qa_u x)) := by
      apply qa_u_inj
      rw [qa_u_shr _ 56 (by decide), qa_u_mul, kc, qa_u_lN e5, e6, qa_u_lN (qa_o3 e6)]
    rw [g, lN_i]
    exact h
end
section
/-! ===== single words: pure rows ===== -/
theorem qf_int (x : Int64) : x.toInt = if 2 * qa_u x < 18446744073709551616 then (qa_u x : Int) else (qa_u x : Int) - 18446744073709551616 := BitVec.toInt_eq_toNat_cond _
theorem qf_sshr (x : Int64) {s : Int64} (k : Nat) (hs : (s.toBitVec.smod 64).toNat = k) : (x >>> s).toInt = x.toInt / 2 ^ k := by
  have e : (x >>> s).toInt = x.toInt >>> k := by
    rw [← hs]
    exact BitVec.toInt_sshiftRight ..
  rw [e, Int.shiftRight_eq_div_pow]
  rfl
theorem qf_lo (x : Int64) : qa_u (x.toInt32.toInt64 &&& 4294967295) = qa_u x % 4294967296 := by
  rw [qa_u_and, show qa_u 4294967295 = 2 ^ 32 - 1 from by decide, Nat.and_two_pow_sub_one_eq_mod]
  have h1 := qf_int x.toInt32.toInt64
  rw [Int32.toInt_toInt64, Int64.toInt_toInt32, qf_int x] at h1
  have hx := qa_u_lt x
  have hy := qa_u_lt x.toInt32.toInt64
  generalize qa_u x.toInt32.toInt64 = m at *
  generalize qa_u x = n at *
  simp only [Int.bmod] at h1
  omega
theorem qf_hi (x : Int64) : qa_u ((x >>> ((32 : Int32).toInt64 &&& 63)).toInt32.toInt64 &&& 4294967295) = qa_u x / 4294967296 := by
  rw [qf_lo]
  have h1 := qf_sshr x (s := (32 : Int32).toInt64 &&& 63) 32 (by decide)
  rw [qf_int x, qf_int] at h1
  have hx := qa_u_lt x
  have hy := qa_u_lt (x >>> ((32 : Int32).toInt64 &&& 63))
  generalize qa_u (x >>> ((32 : Int32).toInt64 &&& 63)) = m at *
  generalize qa_u x = n at *
  omega
theorem qf_top (x : Int64) : (x >>> ((63 : Int32).toInt64 &&& 63)).toInt32 &&& 1 = nI (qa_u x / 2 ^ 63) := by
  have h1 := qf_sshr x (s := (63 : Int32).toInt64 &&& 63) 63 (by decide)
  rw [qf_int x] at h1
  have hx := qa_u_lt x
  have hc : qa_u x / 2 ^ 63 = 0 ∨ qa_u x / 2 ^ 63 = 1 := by omega
  rcases hc with c | c
  · have e : x >>> ((63 : Int32).toInt64 &&& 63) = 0 := Int64.toInt_inj.mp (by
      rw [h1]
      show _ = (0 : Int)
      omega)
    rw [e, c]
    decide
  · have e : x >>> ((63 : Int32).toInt64 &&& 63) = -1 := Int64.toInt_inj.mp (by
      rw [h1]
      show _ = (-1 : Int)
      omega)
    rw [e, c]
    decide
theorem qf_topU (x : Int64) : (x.toUInt64 >>> ((63 : Int32).toInt64.toUInt64 &&& Int64.toUInt64 63)).toInt64 = lN (qa_u x / 2 ^ 63) := by
  apply qa_u_inj
  have hx := qa_u_lt x
  rw [qa_u_shr _ 63 (by decide), qa_u_lN (by omega)]
/-- what two puts of 32 leave in a word that was 0 -/
theorem qf_low (x : Int64) : ((((0 : Int64) &&& (((4294967295 : Int64) <<< ((0 : Int32).toInt64 &&& 63)) ^^^ (-1))) ||| ((x.toInt32.toInt64 &&& 4294967295) <<< ((0 : Int32).toInt64 &&& 63))) &&& (((4294967295 : Int64) <<< ((32 : Int32).toInt64 &&& 63)) ^^^ (-1))) ||| (((x >>> ((32 : Int32).toInt64 &&& 63)).toInt32.toInt64 &&& 4294967295) <<< ((32 : Int32).toInt64 &&& 63)) = x := by
  apply qa_u_inj
  have hx := qa_u_lt x
  rw [qa_u_or, qa_u_and, qa_u_or, qa_u_and, qa_u_shl _ 0 (by decide), qa_u_shl _ 32 (by decide), qf_lo, qf_hi, show qa_u 0 = 0 from by decide, Nat.zero_and, Nat.zero_or, show qa_u (((4294967295 : Int64) <<< ((32 : Int32).toInt64 &&& 63)) ^^^ (-1)) = 2 ^ 32 - 1 from by decide, Nat.and_two_pow_sub_one_eq_mod]
  generalize qa_u x = n at *
  rw [show n % 4294967296 * 2 ^ 0 % 18446744073709551616 % 2 ^ 32 = n % 4294967296 by omega, show n / 4294967296 * 2 ^ 32 % 18446744073709551616 = 2 ^ 32 * (n / 4294967296) by omega, Nat.or_comm, ← Nat.two_pow_add_eq_or_of_lt (show n % 4294967296 < 2 ^ 32 by omega)]
  omega
/-- what a put of 8 leaves in a word that was 0 -/
theorem qf_high : ∀ h, h < 256 → (((0 : Int64) &&& (((255 : Int64) <<< ((0 : Int32).toInt64 &&& 63)) ^^^ (-1))) ||| (((nI h).toInt64 &&& 255) <<< ((0 : Int32).toInt64 &&& 63))) = lN h := by decide +kernel
theorem qf_255 (n : Nat) (hn : n < 18446744073709551616) : lN n &&& 255 = lN (n % 256) := by
  apply qa_u_inj
  rw [qa_u_and, qa_u_lN hn, qa_u_lN (by omega), show qa_u 255 = 2 ^ 8 - 1 from by decide, Nat.and_two_pow_sub_one_eq_mod]
theorem qf_and {p q : Nat} (hp : p < 256) (hq : q < 256) : lN p &&& lN q = lN (p &&& q) ∧ (p &&& q) < 256 := by
  have h : (p &&& q) < 256 := Nat.and_lt_two_pow (n := 8) p hq
  refine ⟨qa_u_inj ?_, h⟩
  rw [qa_u_and, qa_u_lN (by omega), qa_u_lN (by omega), qa_u_lN (by omega)]
theorem qf_xor {p q : Nat} (hp : p < 256) (hq : q < 256) : lN p ^^^ lN q = lN (p ^^^ q) ∧ (p ^^^ q) < 256 := by
  have h : (p ^^^ q) < 256 := Nat.xor_lt_two_pow (n := 8) hp hq
  refine ⟨qa_u_inj ?_, h⟩
  rw [qa_u_xor, qa_u_lN (by omega), qa_u_lN (by omega), qa_u_lN (by omega)]
/-! the sign turned: unsigned order -/
theorem qf_nx {a : Nat} (h : a < 18446744073709551616) : a ^^^ 2 ^ 63 = (a + 9223372036854775808) % 18446744073709551616 := by
  have h1 : (a ^^^ 2 ^ 63) % 2 ^ 63 = a % 2 ^ 63 := by rw [Nat.xor_mod_two_pow, Nat.mod_self, Nat.xor_zero]
  have h2 : (a ^^^ 2 ^ 63) / 2 ^ 63 = (a / 2 ^ 63) ^^^ 1 := by rw [Nat.xor_div_two_pow, Nat.div_self (Nat.two_pow_pos 63)]
  have h3 : a / 2 ^ 63 = 0 ∨ a / 2 ^ 63 = 1 := by omega
  generalize a ^^^ 2 ^ 63 = t at h1 h2
  rcases h3 with h3 | h3
  · rw [h3] at h2
    have h2 : t / 2 ^ 63 = 1 := h2
    omega
  · rw [h3] at h2
    have h2 : t / 2 ^ 63 = 0 := h2
    omega
theorem qf_sx (x : Int64) : x ^^^ (-9223372036854775808) = x + (-9223372036854775808) := by
  apply qa_u_inj
  rw [qa_u_xor, qa_u_add, show qa_u (-9223372036854775808) = 2 ^ 63 from by decide, qf_nx (qa_u_lt x)]
theorem qf_sxi {x y : Int64} : x ^^^ (-9223372036854775808) = y ^^^ (-9223372036854775808) ↔ x = y := by
  constructor
  · intro h
    have e := congrArg (fun z => z ^^^ (-9223372036854775808 : Int64)) h
    simpa [Int64.xor_assoc] using e
  · intro h
    rw [h]
theorem qf_le (x y : Int64) : (x ^^^ (-9223372036854775808)) ≤ (y ^^^ (-9223372036854775808)) ↔ qa_u x ≤ qa_u y := by
  have hx := qa_u_lt x
  have hy := qa_u_lt y
  rw [Int64.le_iff_toInt_le, qf_int, qf_int, qa_u_xor, qa_u_xor, show qa_u (-9223372036854775808) = 2 ^ 63 from by decide, qf_nx hx, qf_nx hy]
  omega
/-! one bit of a byte -/
theorem qf_bit : ∀ t, t < 256 → ∀ i, i < 8 → ((((lN t).toUInt64 >>> (((64 + nI i) &&& 63).toInt64.toUInt64 &&& Int64.toUInt64 63)).toInt64 &&& 1) = 1 ↔ t / 2 ^ i % 2 = 1) := by decide +kernel
theorem qf_bit32 : ∀ t, t < 256 → ∀ i, i < 8 → (((nI t >>> (nI i &&& 31)) &&& 1) = 1 ↔ t / 2 ^ i % 2 = 1) := by decide +kernel
theorem qf_ix : ∀ i, i < 8 → (64 + nI i) >>> ((6 : Int32) &&& 31) = nI 1 ∧ ¬ 64 + nI i < 0 ∧ 64 + nI i < 72 := by decide +kernel
end
section
/-! ===== the walks of the methods, each once ===== -/
section
variable {sX sY sZ : Int32} {a1 a3 a4 a5 a6 : Nat → Int64} {a2 : Nat → Int32}
theorem qw_ix : ∀ v, v < 6 → ∀ i, i < 4 → (nI v * 4 + nI i).toNatClampNeg = 4 * v + i ∧ 0 ≤ (nI v * 4 + nI i).toInt ∧ (nI v * 4 + nI i).toInt < ((24 : Nat) : Int) := by decide +kernel
theorem qw_cl {v i : Nat} (hv : v < 6) (hi : i < 4) : (nI v * 4 + nI i).toNatClampNeg = 4 * v + i := (qw_ix v hv i hi).1
theorem qw_in {v i : Nat} (hv : v < 6) (hi : i < 4) : vp_in (nI v * 4 + nI i) 24 := vp_in_iff.mpr (qw_ix v hv i hi).2
theorem qw_i4 {i : Nat} (hi : i < 4) : vp_in (nI i) 4 := vp_in_nI hi (by decide)
theorem qw_bad {post : Int32 → Prop} {u : St0} {v : Nat} (hv : v < 6) (h : post 0) : wpX_bad post u (nI v) := by
  unfold wpX_bad
  exact br_f (nI_pos (by omega)) (br_t (nI_le (b := 5) (by omega) (by decide)) h)
theorem qw_lm0 {post : Int64 → Prop} (h : post (-1)) : wpX_lowMaskAt post () 72 (nI 0) := by
  unfold wpX_lowMaskAt wpX_lowMask
  exact br_t (by decide) (br_f (by decide) h)
theorem qw_lm1 {post : Int64 → Prop} (h : post 255) : wpX_lowMaskAt post () 72 (nI 1) := by
  unfold wpX_lowMaskAt wpX_lowMask
  refine br_t (by decide) (br_t (by decide) ?_)
  rw [show ((1 : Int64) <<< ((72 - 64 * nI 1).toInt64 &&& 63)) - 1 = 255 from by decide]
  exact h
theorem qw_lm2 {post : Int64 → Prop} (h : post 0) : wpX_lowMaskAt post () 72 (nI 2) := by
  unfold wpX_lowMaskAt wpX_lowMask
  exact br_f (by decide) h
theorem qw_lm3 {post : Int64 → Prop} (h : post 0) : wpX_lowMaskAt post () 72 (nI 3) := by
  unfold wpX_lowMaskAt wpX_lowMask
  exact br_f (by decide) h
theorem qw_lmz {post : Int64 → Prop} {i : Nat} (hi : i < 4) (h : post 0) : wpX_lowMaskAt post () 0 (nI i) := by
  unfold wpX_lowMaskAt wpX_lowMask
  have t : ∀ i, i < 4 → ¬ 0 < (0 : Int32) - 64 * nI i := by decide +kernel
  exact br_f (t i hi) h
/-- four stores -/
def qw_q (a : Nat → Int64) (v0 v1 v2 v3 : Int64) : Nat → Int64 := vp_updL (vp_updL (vp_updL (vp_updL a 0 v0) 1 v1) 2 v2) 3 v3
theorem qw_clearZ {post : St2 → Prop} (H : ∀ z : Nat → Int64, z 0 = 0 → z 1 = 0 → post (sX, sY, sZ, a1, a2, a3, a4, z, a6)) : wpX_clearZ post (sX, sY, sZ, a1, a2, a3, a4, a5, a6) := by
  refine Exists.intro 5 ?_
  refine br_f (by decide) ⟨qw_i4 (i := 0) (by decide), nm_r (e' := vp_updL a5 0 0) rfl (nm_r (e' := nI 1) (nI_1 0) ?_)⟩
  refine br_f (by decide) ⟨qw_i4 (i := 1) (by decide), nm_r (e' := vp_updL (vp_updL a5 0 0) 1 0) rfl (nm_r (e' := nI 2) (nI_1 1) ?_)⟩
  refine br_f (by decide) ⟨qw_i4 (i := 2) (by decide), nm_r (e' := vp_updL (vp_updL (vp_updL a5 0 0) 1 0) 2 0) rfl (nm_r (e' := nI 3) (nI_1 2) ?_)⟩
  refine br_f (by decide) ⟨qw_i4 (i := 3) (by decide), nm_r (e' := qw_q a5 0 0 0 0) rfl (nm_r (e' := nI 4) (nI_1 3) ?_)⟩
  exact br_t (by decide) (H _ rfl rfl)
theorem qw_storeZ {post : Int32 → St2 → Prop} {v : Nat} (hv : v < 6)
    (H : ∀ w : Nat → Int64, w (4 * v) = a5 0 → w (4 * v + 1) = a5 1 &&& 255 → w (4 * v + 2) = 0 → w (4 * v + 3) = 0 → (∀ j, j < 4 * v ∨ 4 * v + 4 ≤ j → w j = a1 j) → post 72 (sX, sY, 72, w, upd a2 v 72, a3, a4, a5, a6)) :
    wpX_storeZ post (sX, sY, 72, a1, a2, a3, a4, a5, a6) (nI v) := by
  refine Exists.intro 5 ?_
  refine br_f (by decide) ⟨qw_i4 (i := 0) (by decide), qw_lm0 ⟨qw_in (i := 0) hv (by decide), nm_r (e' := vp_updL a1 (4 * v) (a5 0 &&& (-1))) (congrArg (fun k => vp_updL a1 k (a5 0 &&& (-1))) (qw_cl (i := 0) hv (by decide))) (nm_r (e' := nI 1) (nI_1 0) ?_)⟩⟩
  generalize hw1 : vp_updL a1 (4 * v) (a5 0 &&& (-1)) = w1
  refine br_f (by decide) ⟨qw_i4 (i := 1) (by decide), qw_lm1 ⟨qw_in (i := 1) hv (by decide), nm_r (e' := vp_updL w1 (4 * v + 1) (a5 1 &&& 255)) (congrArg (fun k => vp_updL w1 k (a5 1 &&& 255)) (qw_cl (i := 1) hv (by decide))) (nm_r (e' := nI 2) (nI_1 1) ?_)⟩⟩
  generalize hw2 : vp_updL w1 (4 * v + 1) (a5 1 &&& 255) = w2
  refine br_f (by decide) ⟨qw_i4 (i := 2) (by decide), qw_lm2 ⟨qw_in (i := 2) hv (by decide), nm_r (e' := vp_updL w2 (4 * v + 2) (a5 2 &&& 0)) (congrArg (fun k => vp_updL w2 k (a5 2 &&& 0)) (qw_cl (i := 2) hv (by decide))) (nm_r (e' := nI 3) (nI_1 2) ?_)⟩⟩
  generalize hw3 : vp_updL w2 (4 * v + 2) (a5 2 &&& 0) = w3
  refine br_f (by decide) ⟨qw_i4 (i := 3) (by decide), qw_lm3 ⟨qw_in (i := 3) hv (by decide), nm_r (e' := vp_updL w3 (4 * v + 3) (a5 3 &&& 0)) (congrArg (fun k => vp_updL w3 k (a5 3 &&& 0)) (qw_cl (i := 3) hv (by decide))) (nm_r (e' := nI 4) (nI_1 3) ?_)⟩⟩
  generalize hw4 : vp_updL w3 (4 * v + 3) (a5 3 &&& 0) = w4
  refine br_t (by decide) ⟨vp_in_nI hv (by decide), nm_r (e' := upd a2 v 72) (congrArg (fun k => upd a2 k 72) (nI_clamp (by omega))) (H w4 ?_ ?_ ?_ ?_ ?_)⟩
  · rw [← hw4, pk_uLn (by omega), ← hw3, pk_uLn (by omega), ← hw2, pk_uLn (by omega), ← hw1, pk_uLs, Int64.and_neg_one]
  · rw [← hw4, pk_uLn (by omega), ← hw3, pk_uLn (by omega), ← hw2, pk_uLs]
  · rw [← hw4, pk_uLn (by omega), ← hw3, pk_uLs, Int64.and_zero]
  · rw [← hw4, pk_uLs, Int64.and_zero]
  · intro j hj
    rw [← hw4, pk_uLn (by omega), ← hw3, pk_uLn (by omega), ← hw2, pk_uLn (by omega), ← hw1, pk_uLn (by omega)]
theorem qw_make {post : Int32 → St2 → Prop} {v : Nat} (hv : v < 6)
    (H : ∀ w z : Nat → Int64, w (4 * v) = 0 → w (4 * v + 1) = 0 → w (4 * v + 2) = 0 → w (4 * v + 3) = 0 → (∀ j, j < 4 * v ∨ 4 * v + 4 ≤ j → w j = a1 j) → post 72 (sX, sY, 72, w, upd a2 v 72, a3, a4, z, a6)) :
    wpX_make post (sX, sY, sZ, a1, a2, a3, a4, a5, a6) (nI v) 72 := by
  unfold wpX_make
  refine qw_bad hv (br_t rfl (br_f (by decide) (br_t (by decide) (qw_clearZ (fun z h0 h1 => ?_)))))
  refine qw_storeZ hv (fun w e0 e1 e2 e3 e4 => ?_)
  exact H w z (by rw [e0, h0]) (by rw [e1, h1, Int64.zero_and]) e2 e3 e4
theorem qw_put {post : Int32 → St2 → Prop} {v k : Nat} {p1 p2 p3 s : Int32} {m : Int64} (hv : v < 6) (hk : k < 4) (h2 : a2 v = 72) (c0 : ¬ p2 < 1 ∧ p2 ≤ 32 ∧ ¬ p1 < 0 ∧ p1 ≤ 72 - p2 ∧ 0 < p2 ∧ p2 < 64) (hm : ((1 : Int64) <<< (p2.toInt64 &&& 63)) - 1 = m) (hi : p1 >>> ((6 : Int32) &&& 31) = nI k) (hs : p1 &&& 63 = s) (c5 : s + p2 ≤ 64)
    (H : post p2 (sX, sY, sZ, vp_updL a1 (4 * v + k) ((a1 (4 * v + k) &&& ((m <<< (s.toInt64 &&& 63)) ^^^ (-1))) ||| ((p3.toInt64 &&& m) <<< (s.toInt64 &&& 63))), a2, a3, a4, a5, a6)) :
    wpX_put post (sX, sY, sZ, a1, a2, a3, a4, a5, a6) (nI v) p1 p2 p3 := by
  subst hm
  obtain ⟨c1, c2, c3, c4, c6, c7⟩ := c0
  unfold wpX_put
  refine qw_bad hv (br_t rfl (br_f c1 (br_t c2 (br_f c3 ⟨vp_in_nI hv (by decide), br_t ?_ ?_⟩))))
  · rw [nI_clamp (by omega), h2]
    exact c4
  · unfold wpX_lowMask
    refine br_t c6 (br_t c7 ?_)
    refine nm_e (nm_r (e' := nI v * 4 + nI k) (by rw [hi]) (nm_r (e' := s) hs ⟨qw_in hv hk, qw_in hv hk, ?_⟩))
    rw [qw_cl hv hk]
    exact nm_e (br_t c5 H)
theorem qw_fill {post : St2 → Prop} {v h : Nat} {low : Int64} (hv : v < 6) (hh : h < 256)
    (H : ∀ w z : Nat → Int64, w (4 * v) = low → w (4 * v + 1) = lN h → w (4 * v + 2) = 0 → w (4 * v + 3) = 0 → (∀ j, j < 4 * v ∨ 4 * v + 4 ≤ j → w j = a1 j) → post (sX, sY, 72, w, upd a2 v 72, a3, a4, z, a6)) :
    wpL_fill post (sX, sY, sZ, a1, a2, a3, a4, a5, a6) (nI v) low (nI h) := by
  unfold wpL_fill
  refine qw_make hv (fun w z e0 e1 e2 e3 e4 => ?_)
  refine qw_put (k := 0) (s := 0) (m := 4294967295) hv (by decide) pk_us (by decide) (by decide) (by decide) (by decide) (by decide) ?_
  refine qw_put (k := 0) (s := 32) (m := 4294967295) hv (by decide) pk_us (by decide) (by decide) (by decide) (by decide) (by decide) ?_
  refine qw_put (k := 1) (s := 0) (m := 255) hv (by decide) pk_us (by decide) (by decide) (by decide) (by decide) (by decide) ?_
  refine H _ z ?_ ?_ ?_ ?_ ?_
  · rw [pk_uLn (by omega)]
    show vp_updL _ (4 * v) _ (4 * v) = low
    rw [pk_uLs, Nat.add_zero, pk_uLs, e0]
    exact qf_low low
  · rw [pk_uLs, pk_uLn (by omega), pk_uLn (by omega), e1]
    exact qf_high h hh
  · rw [pk_uLn (by omega), pk_uLn (by omega), pk_uLn (by omega), e2]
  · rw [pk_uLn (by omega), pk_uLn (by omega), pk_uLn (by omega), e3]
  · intro j hj
    rw [pk_uLn (by omega), pk_uLn (by omega), pk_uLn (by omega), e4 j hj]
theorem qw_loadX {post : St2 → Prop} {v : Nat} {s : Int32} (hv : v < 6) (hs : a2 v = s)
    (H : ∀ x : Nat → Int64, x 0 = a1 (4 * v) → x 1 = a1 (4 * v + 1) → x 2 = a1 (4 * v + 2) → x 3 = a1 (4 * v + 3) → post (s, sY, sZ, a1, a2, x, a4, a5, a6)) :
    wpX_loadX post (sX, sY, sZ, a1, a2, a3, a4, a5, a6) (nI v) := by
  refine Exists.intro 5 ?_
  refine br_f (by decide) ⟨qw_in (i := 0) hv (by decide), qw_i4 (i := 0) (by decide), nm_r (e' := vp_updL a3 0 (a1 (4 * v))) (congrArg (fun k => vp_updL a3 0 (a1 k)) (qw_cl (i := 0) hv (by decide))) (nm_r (e' := nI 1) (nI_1 0) ?_)⟩
  refine br_f (by decide) ⟨qw_in (i := 1) hv (by decide), qw_i4 (i := 1) (by decide), nm_r (e' := vp_updL (vp_updL a3 0 (a1 (4 * v))) 1 (a1 (4 * v + 1))) (congrArg (fun k => vp_updL _ 1 (a1 k)) (qw_cl (i := 1) hv (by decide))) (nm_r (e' := nI 2) (nI_1 1) ?_)⟩
  refine br_f (by decide) ⟨qw_in (i := 2) hv (by decide), qw_i4 (i := 2) (by decide), nm_r (e' := vp_updL (vp_updL (vp_updL a3 0 (a1 (4 * v))) 1 (a1 (4 * v + 1))) 2 (a1 (4 * v + 2))) (congrArg (fun k => vp_updL _ 2 (a1 k)) (qw_cl (i := 2) hv (by decide))) (nm_r (e' := nI 3) (nI_1 2) ?_)⟩
  refine br_f (by decide) ⟨qw_in (i := 3) hv (by decide), qw_i4 (i := 3) (by decide), nm_r (e' := qw_q a3 (a1 (4 * v)) (a1 (4 * v + 1)) (a1 (4 * v + 2)) (a1 (4 * v + 3))) (congrArg (fun k => vp_updL _ 3 (a1 k)) (qw_cl (i := 3) hv (by decide))) (nm_r (e' := nI 4) (nI_1 3) ?_)⟩
  exact br_t (by decide) ⟨vp_in_nI hv (by decide), nm_r (e' := s) (by rw [nI_clamp (by omega)]; exact hs) (H _ rfl rfl rfl rfl)⟩
theorem qw_loadY {post : St2 → Prop} {v : Nat} {s : Int32} (hv : v < 6) (hs : a2 v = s)
    (H : ∀ x : Nat → Int64, x 0 = a1 (4 * v) → x 1 = a1 (4 * v + 1) → x 2 = a1 (4 * v + 2) → x 3 = a1 (4 * v + 3) → post (sX, s, sZ, a1, a2, a3, x, a5, a6)) :
    wpX_loadY post (sX, sY, sZ, a1, a2, a3, a4, a5, a6) (nI v) := by
  refine Exists.intro 5 ?_
  refine br_f (by decide) ⟨qw_in (i := 0) hv (by decide), qw_i4 (i := 0) (by decide), nm_r (e' := vp_updL a4 0 (a1 (4 * v))) (congrArg (fun k => vp_updL a4 0 (a1 k)) (qw_cl (i := 0) hv (by decide))) (nm_r (e' := nI 1) (nI_1 0) ?_)⟩
  refine br_f (by decide) ⟨qw_in (i := 1) hv (by decide), qw_i4 (i := 1) (by decide), nm_r (e' := vp_updL (vp_updL a4 0 (a1 (4 * v))) 1 (a1 (4 * v + 1))) (congrArg (fun k => vp_updL _ 1 (a1 k)) (qw_cl (i := 1) hv (by decide))) (nm_r (e' := nI 2) (nI_1 1) ?_)⟩
  refine br_f (by decide) ⟨qw_in (i := 2) hv (by decide), qw_i4 (i := 2) (by decide), nm_r (e' := vp_updL (vp_updL (vp_updL a4 0 (a1 (4 * v))) 1 (a1 (4 * v + 1))) 2 (a1 (4 * v + 2))) (congrArg (fun k => vp_updL _ 2 (a1 k)) (qw_cl (i := 2) hv (by decide))) (nm_r (e' := nI 3) (nI_1 2) ?_)⟩
  refine br_f (by decide) ⟨qw_in (i := 3) hv (by decide), qw_i4 (i := 3) (by decide), nm_r (e' := qw_q a4 (a1 (4 * v)) (a1 (4 * v + 1)) (a1 (4 * v + 2)) (a1 (4 * v + 3))) (congrArg (fun k => vp_updL _ 3 (a1 k)) (qw_cl (i := 3) hv (by decide))) (nm_r (e' := nI 4) (nI_1 3) ?_)⟩
  exact br_t (by decide) ⟨vp_in_nI hv (by decide), nm_r (e' := s) (by rw [nI_clamp (by omega)]; exact hs) (H _ rfl rfl rfl rfl)⟩
/-! the three kinds of combine -/
theorem qw_and {post : St2 → Prop} (H : ∀ z : Nat → Int64, z 0 = a3 0 &&& a4 0 → z 1 = a3 1 &&& a4 1 → post (sX, sY, sZ, a1, a2, a3, a4, z, a6)) : wpX_combineWords post (sX, sY, sZ, a1, a2, a3, a4, a5, a6) 0 := by
  unfold wpX_combineWords
  refine br_f (by decide) (br_f (by decide) (br_t (by decide) (Exists.intro 5 ?_)))
  refine br_f (by decide) ⟨qw_i4 (i := 0) (by decide), qw_i4 (i := 0) (by decide), qw_i4 (i := 0) (by decide), nm_r (e' := vp_updL a5 0 (a3 0 &&& a4 0)) rfl (nm_r (e' := nI 1) (nI_1 0) ?_)⟩
  refine br_f (by decide) ⟨qw_i4 (i := 1) (by decide), qw_i4 (i := 1) (by decide), qw_i4 (i := 1) (by decide), nm_r (e' := vp_updL (vp_updL a5 0 (a3 0 &&& a4 0)) 1 (a3 1 &&& a4 1)) rfl (nm_r (e' := nI 2) (nI_1 1) ?_)⟩
  refine br_f (by decide) ⟨qw_i4 (i := 2) (by decide), qw_i4 (i := 2) (by decide), qw_i4 (i := 2) (by decide), nm_r (e' := vp_updL (vp_updL (vp_updL a5 0 (a3 0 &&& a4 0)) 1 (a3 1 &&& a4 1)) 2 (a3 2 &&& a4 2)) rfl (nm_r (e' := nI 3) (nI_1 2) ?_)⟩
  refine br_f (by decide) ⟨qw_i4 (i := 3) (by decide), qw_i4 (i := 3) (by decide), qw_i4 (i := 3) (by decide), nm_r (e' := qw_q a5 (a3 0 &&& a4 0) (a3 1 &&& a4 1) (a3 2 &&& a4 2) (a3 3 &&& a4 3)) rfl (nm_r (e' := nI 4) (nI_1 3) ?_)⟩
  exact br_t (by decide) (H _ rfl rfl)
theorem qw_xor {post : St2 → Prop} (H : ∀ z : Nat → Int64, z 0 = a3 0 ^^^ a4 0 → z 1 = a3 1 ^^^ a4 1 → post (sX, sY, sZ, a1, a2, a3, a4, z, a6)) : wpX_combineWords post (sX, sY, sZ, a1, a2, a3, a4, a5, a6) 2 := by
  unfold wpX_combineWords
  refine br_f (by decide) (br_f (by decide) (br_f (by decide) (br_f (by decide) (br_t (by decide) (Exists.intro 5 ?_)))))
  refine br_f (by decide) ⟨qw_i4 (i := 0) (by decide), qw_i4 (i := 0) (by decide), qw_i4 (i := 0) (by decide), nm_r (e' := vp_updL a5 0 (a3 0 ^^^ a4 0)) rfl (nm_r (e' := nI 1) (nI_1 0) ?_)⟩
  refine br_f (by decide) ⟨qw_i4 (i := 1) (by decide), qw_i4 (i := 1) (by decide), qw_i4 (i := 1) (by decide), nm_r (e' := vp_updL (vp_updL a5 0 (a3 0 ^^^ a4 0)) 1 (a3 1 ^^^ a4 1)) rfl (nm_r (e' := nI 2) (nI_1 1) ?_)⟩
  refine br_f (by decide) ⟨qw_i4 (i := 2) (by decide), qw_i4 (i := 2) (by decide), qw_i4 (i := 2) (by decide), nm_r (e' := vp_updL (vp_updL (vp_updL a5 0 (a3 0 ^^^ a4 0)) 1 (a3 1 ^^^ a4 1)) 2 (a3 2 ^^^ a4 2)) rfl (nm_r (e' := nI 3) (nI_1 2) ?_)⟩
  refine br_f (by decide) ⟨qw_i4 (i := 3) (by decide), qw_i4 (i := 3) (by decide), qw_i4 (i := 3) (by decide), nm_r (e' := qw_q a5 (a3 0 ^^^ a4 0) (a3 1 ^^^ a4 1) (a3 2 ^^^ a4 2) (a3 3 ^^^ a4 3)) rfl (nm_r (e' := nI 4) (nI_1 3) ?_)⟩
  exact br_t (by decide) (H _ rfl rfl)
/-- the bit that a sum carries out -/
def qw_cy (a b : Int64) : Nat := qa_u ((a &&& b) ||| ((a ||| b) &&& ((a + b) ^^^ (-1)))) / 2 ^ 63
theorem qw_plus {post : St2 → Prop} (H : ∀ z : Nat → Int64, z 0 = a3 0 + a4 0 → z 1 = a3 1 + a4 1 + lN (qw_cy (a3 0) (a4 0)) → post (sX, sY, sZ, a1, a2, a3, a4, z, a6)) : wpX_combineWords post (sX, sY, sZ, a1, a2, a3, a4, a5, a6) 3 := by
  unfold wpX_combineWords
  refine br_f (by decide) (br_f (by decide) (br_f (by decide) (br_f (by decide) (br_f (by decide) (br_t (by decide) ?_)))))
  refine Exists.intro 5 ?_
  refine br_f (by decide) ⟨qw_i4 (i := 0) (by decide), qw_i4 (i := 0) (by decide), nm_r (e' := a3 0 + a4 0) (Int64.add_zero _) ⟨qw_i4 (i := 0) (by decide), qw_i4 (i := 0) (by decide), qw_i4 (i := 0) (by decide), qw_i4 (i := 0) (by decide), nm_r (e' := lN (qw_cy (a3 0) (a4 0))) (qf_topU _) ⟨qw_i4 (i := 0) (by decide), nm_r (e' := vp_updL a5 0 (a3 0 + a4 0)) rfl (nm_r (e' := nI 1) (nI_1 0) ?_)⟩⟩⟩
  refine br_f (by decide) ⟨qw_i4 (i := 1) (by decide), qw_i4 (i := 1) (by decide), nm_r (e' := a3 1 + a4 1 + lN (qw_cy (a3 0) (a4 0))) rfl ⟨qw_i4 (i := 1) (by decide), qw_i4 (i := 1) (by decide), qw_i4 (i := 1) (by decide), qw_i4 (i := 1) (by decide), fun c2 _ => ⟨qw_i4 (i := 1) (by decide), nm_r (e' := vp_updL (vp_updL a5 0 (a3 0 + a4 0)) 1 (a3 1 + a4 1 + lN (qw_cy (a3 0) (a4 0)))) rfl (nm_r (e' := nI 2) (nI_1 1) ?_)⟩⟩⟩
  refine br_f (by decide) ⟨qw_i4 (i := 2) (by decide), qw_i4 (i := 2) (by decide), fun s2 _ => ⟨qw_i4 (i := 2) (by decide), qw_i4 (i := 2) (by decide), qw_i4 (i := 2) (by decide), qw_i4 (i := 2) (by decide), fun c3 _ => ⟨qw_i4 (i := 2) (by decide), nm_r (e' := vp_updL (vp_updL (vp_updL a5 0 (a3 0 + a4 0)) 1 (a3 1 + a4 1 + lN (qw_cy (a3 0) (a4 0)))) 2 s2) rfl (nm_r (e' := nI 3) (nI_1 2) ?_)⟩⟩⟩
  refine br_f (by decide) ⟨qw_i4 (i := 3) (by decide), qw_i4 (i := 3) (by decide), fun s3 _ => ⟨qw_i4 (i := 3) (by decide), qw_i4 (i := 3) (by decide), qw_i4 (i := 3) (by decide), qw_i4 (i := 3) (by decide), fun c4 _ => ⟨qw_i4 (i := 3) (by decide), nm_r (e' := qw_q a5 (a3 0 + a4 0) (a3 1 + a4 1 + lN (qw_cy (a3 0) (a4 0))) s2 s3) rfl (nm_r (e' := nI 4) (nI_1 3) ?_)⟩⟩⟩
  exact br_t (by decide) (H _ rfl rfl)
theorem qw_combine {post : Int32 → St2 → Prop} {kind : Int32} {f0 f1 A0 A1 B0 B1 : Int64} {t a b : Nat} (ht : t < 6) (ha : a < 6) (hb : b < 6) (sa : a2 a = 72) (sb : a2 b = 72)
    (kk : ¬ kind < 0 ∧ kind ≤ 7 ∧ ¬ kind = 4 ∧ ¬ kind = 6 ∧ ¬ kind = 7) (hA0 : a1 (4 * a) = A0) (hA1 : a1 (4 * a + 1) = A1) (hB0 : a1 (4 * b) = B0) (hB1 : a1 (4 * b + 1) = B1)
    (C : ∀ (Q : St2 → Prop) (x y z : Nat → Int64), x 0 = A0 → x 1 = A1 → y 0 = B0 → y 1 = B1 → (∀ z' : Nat → Int64, z' 0 = f0 → z' 1 = f1 → Q (72, 72, 72, a1, a2, x, y, z', a6)) → wpX_combineWords Q (72, 72, 72, a1, a2, x, y, z, a6) kind)
    (H : ∀ w x y z : Nat → Int64, w (4 * t) = f0 → w (4 * t + 1) = f1 &&& 255 → w (4 * t + 2) = 0 → w (4 * t + 3) = 0 → (∀ j, j < 4 * t ∨ 4 * t + 4 ≤ j → w j = a1 j) → post 72 (72, 72, 72, w, upd a2 t 72, x, y, z, a6)) :
    wpX_combine post (sX, sY, sZ, a1, a2, a3, a4, a5, a6) (nI t) kind (nI a) (nI b) := by
  obtain ⟨k1, k2, k4, k6, k7⟩ := kk
  unfold wpX_combine
  refine qw_bad ht (br_t rfl (qw_bad ha (br_t rfl (qw_bad hb (br_t rfl (br_f k1 (br_t k2 ?_)))))))
  refine qw_loadX ha sa (fun x x0 x1 _ _ => ?_)
  refine qw_loadY hb sb (fun y y0 y1 _ _ => ?_)
  show wpX_lengthsFit _ _ _
  unfold wpX_lengthsFit
  refine br_f k4 (br_f k6 (br_t rfl (br_f k7 (br_f (by decide) ?_))))
  refine qw_clearZ (fun z _ _ => ?_)
  refine C _ x y z (x0.trans hA0) (x1.trans hA1) (y0.trans hB0) (y1.trans hB1) (fun z' z0 z1 => ?_)
  refine qw_storeZ ht (fun w e0 e1 e2 e3 e4 => ?_)
  exact H w x y z' (e0.trans z0) (by rw [e1, z1]) e2 e3 e4
end
end
section
/-! ===== compare, get, count, change, place ===== -/
section
variable {sX sY sZ : Int32} {a1 a3 a4 a5 a6 : Nat → Int64} {a2 : Nat → Int32}
theorem qv_cmp {post : Int32 → Prop} {a b : Nat} {P0 P1 Q0 Q1 : Int64} (ha : a < 6) (hb : b < 6) (p0 : a1 (4 * a) = P0) (p1 : a1 (4 * a + 1) = P1) (p2 : a1 (4 * a + 2) = 0) (p3 : a1 (4 * a + 3) = 0) (q0 : a1 (4 * b) = Q0) (q1 : a1 (4 * b + 1) = Q1) (q2 : a1 (4 * b + 2) = 0) (q3 : a1 (4 * b + 3) = 0)
    (H1 : ¬ P1 = Q1 → (qa_u Q1 ≤ qa_u P1 → post 1) ∧ (¬ qa_u Q1 ≤ qa_u P1 → post (-1)))
    (H2 : P1 = Q1 → ¬ P0 = Q0 → (qa_u Q0 ≤ qa_u P0 → post 1) ∧ (¬ qa_u Q0 ≤ qa_u P0 → post (-1)))
    (H3 : P1 = Q1 → P0 = Q0 → post 0) : wpX_compare post (sX, sY, sZ, a1, a2, a3, a4, a5, a6) (nI a) (nI b) := by
  unfold wpX_compare
  refine qw_bad ha (br_t rfl (qw_bad hb (br_t rfl (Exists.intro 5 ?_))))
  refine br_f (by decide) ⟨qw_in (i := 3) ha (by decide), nm_r (e' := 0 ^^^ (-9223372036854775808)) (congrArg (fun x => x ^^^ (-9223372036854775808 : Int64)) ((congrArg a1 (qw_cl (i := 3) ha (by decide))).trans p3)) ⟨qw_in (i := 3) hb (by decide), nm_r (e' := 0 ^^^ (-9223372036854775808)) (congrArg (fun x => x ^^^ (-9223372036854775808 : Int64)) ((congrArg a1 (qw_cl (i := 3) hb (by decide))).trans q3)) (br_t rfl (nm_r (e' := nI 2) (pk_m1 2) ?_))⟩⟩
  refine br_f (by decide) ⟨qw_in (i := 2) ha (by decide), nm_r (e' := 0 ^^^ (-9223372036854775808)) (congrArg (fun x => x ^^^ (-9223372036854775808 : Int64)) ((congrArg a1 (qw_cl (i := 2) ha (by decide))).trans p2)) ⟨qw_in (i := 2) hb (by decide), nm_r (e' := 0 ^^^ (-9223372036854775808)) (congrArg (fun x => x ^^^ (-9223372036854775808 : Int64)) ((congrArg a1 (qw_cl (i := 2) hb (by decide))).trans q2)) (br_t rfl (nm_r (e' := nI 1) (pk_m1 1) ?_))⟩⟩
  refine br_f (by decide) ⟨qw_in (i := 1) ha (by decide), nm_r (e' := P1 ^^^ (-9223372036854775808)) (congrArg (fun x => x ^^^ (-9223372036854775808 : Int64)) ((congrArg a1 (qw_cl (i := 1) ha (by decide))).trans p1)) ⟨qw_in (i := 1) hb (by decide), nm_r (e' := Q1 ^^^ (-9223372036854775808)) (congrArg (fun x => x ^^^ (-9223372036854775808 : Int64)) ((congrArg a1 (qw_cl (i := 1) hb (by decide))).trans q1)) (ek_if qf_sxi (fun g1 => nm_r (e' := nI 0) (pk_m1 0) ?_) (fun g1 => ek_if (qf_le Q1 P1) (H1 g1).1 (H1 g1).2))⟩⟩
  refine br_f (by decide) ⟨qw_in (i := 0) ha (by decide), nm_r (e' := P0 ^^^ (-9223372036854775808)) (congrArg (fun x => x ^^^ (-9223372036854775808 : Int64)) ((congrArg a1 (qw_cl (i := 0) ha (by decide))).trans p0)) ⟨qw_in (i := 0) hb (by decide), nm_r (e' := Q0 ^^^ (-9223372036854775808)) (congrArg (fun x => x ^^^ (-9223372036854775808 : Int64)) ((congrArg a1 (qw_cl (i := 0) hb (by decide))).trans q0)) (ek_if qf_sxi (fun g0 => nm_r (e' := -1) (by decide) ?_) (fun g0 => ek_if (qf_le Q0 P0) (H2 g1 g0).1 (H2 g1 g0).2))⟩⟩
  exact br_t (by decide) (H3 g1 g0)
/-- the same, its answer as a hypothesis -/
theorem qv_cmpR {post : Int32 → Prop} {a b : Nat} {P0 P1 Q0 Q1 : Int64} (ha : a < 6) (hb : b < 6) (p0 : a1 (4 * a) = P0) (p1 : a1 (4 * a + 1) = P1) (p2 : a1 (4 * a + 2) = 0) (p3 : a1 (4 * a + 3) = 0) (q0 : a1 (4 * b) = Q0) (q1 : a1 (4 * b + 1) = Q1) (q2 : a1 (4 * b + 2) = 0) (q3 : a1 (4 * b + 3) = 0)
    (H : ∀ r : Int32, (¬ P1 = Q1 → (qa_u Q1 ≤ qa_u P1 → r = 1) ∧ (¬ qa_u Q1 ≤ qa_u P1 → r = -1)) → (P1 = Q1 → ¬ P0 = Q0 → (qa_u Q0 ≤ qa_u P0 → r = 1) ∧ (¬ qa_u Q0 ≤ qa_u P0 → r = -1)) → (P1 = Q1 → P0 = Q0 → r = 0) → post r) : wpX_compare post (sX, sY, sZ, a1, a2, a3, a4, a5, a6) (nI a) (nI b) :=
  qv_cmp ha hb p0 p1 p2 p3 q0 q1 q2 q3
    (fun g => ⟨fun l => H 1 (fun _ => ⟨fun _ => rfl, fun z => absurd l z⟩) (fun z => absurd z g) (fun z => absurd z g), fun l => H (-1) (fun _ => ⟨fun z => absurd z l, fun _ => rfl⟩) (fun z => absurd z g) (fun z => absurd z g)⟩)
    (fun g f => ⟨fun l => H 1 (fun z => absurd g z) (fun _ _ => ⟨fun _ => rfl, fun z => absurd l z⟩) (fun _ z => absurd z f), fun l => H (-1) (fun z => absurd g z) (fun _ _ => ⟨fun z => absurd z l, fun _ => rfl⟩) (fun _ z => absurd z f)⟩)
    (fun g f => H 0 (fun z => absurd g z) (fun _ z => absurd f z) (fun _ _ => rfl))
theorem qv_get {post : Int32 → Prop} {v i t : Nat} (hv : v < 6) (hi : i < 8) (ht : t < 256) (hs : a2 v = 72) (hw : a1 (4 * v + 1) = lN t) (H1 : t / 2 ^ i % 2 = 1 → post 1) (H0 : ¬ t / 2 ^ i % 2 = 1 → post 0) : wpX_get post (sX, sY, sZ, a1, a2, a3, a4, a5, a6) (nI v) (64 + nI i) := by
  obtain ⟨e1, e2, e3⟩ := qf_ix i hi
  unfold wpX_get
  refine qw_bad hv (br_t rfl (br_f e2 ⟨vp_in_nI hv (by decide), br_t ?_ ?_⟩))
  · rw [nI_clamp (by omega), hs]
    exact e3
  · rw [e1, qw_cl hv (by decide), hw]
    exact ⟨qw_in hv (by decide), ek_if (qf_bit t ht i hi) H1 H0⟩
theorem qv_below {post : Int32 → Prop} {v h : Nat} {W0 : Int64} {p : Int32} (hp : p = 72) (hv : v < 6) (hh : h < 256) (w0 : a1 (4 * v) = W0) (w1 : a1 (4 * v + 1) = lN h) (H : post (nI (qa_cnt (qa_u W0) + qa_cnt h))) : wpX_onesBelow post (sX, sY, sZ, a1, a2, a3, a4, a5, a6) (nI v) p := by
  subst hp
  refine Exists.intro 5 ?_
  refine br_f (by decide) ⟨qw_in (i := 0) hv (by decide), qw_lm0 (qa_ones (nm_r (e' := nI (qa_cnt (qa_u W0))) ?_ (nm_r (e' := nI 1) (nI_1 0) ?_)))⟩
  · show nI 0 + nI (qa_cnt (qa_u (a1 (nI v * 4 + nI 0).toNatClampNeg &&& -1))) = _
    rw [qw_cl hv (by decide), Int64.and_neg_one, nI_add, Nat.zero_add]
    exact congrArg (fun x => nI (qa_cnt (qa_u x))) w0
  refine br_f (by decide) ⟨qw_in (i := 1) hv (by decide), qw_lm1 (qa_ones (nm_r (e' := nI (qa_cnt (qa_u W0) + qa_cnt h)) ?_ (nm_r (e' := nI 2) (nI_1 1) ?_)))⟩
  · rw [qw_cl hv (by decide), w1, qf_255 h (by omega), Nat.mod_eq_of_lt hh, qa_u_lN (by omega), nI_add]
  refine br_f (by decide) ⟨qw_in (i := 2) hv (by decide), qw_lm2 (qa_ones (nm_r (e' := nI (qa_cnt (qa_u W0) + qa_cnt h)) ?_ (nm_r (e' := nI 3) (nI_1 2) ?_)))⟩
  · rw [Int64.and_zero, show qa_u 0 = 0 from by decide, qa_cnt_0, nI_add, Nat.add_zero]
  refine br_f (by decide) ⟨qw_in (i := 3) hv (by decide), qw_lm3 (qa_ones (nm_r (e' := nI (qa_cnt (qa_u W0) + qa_cnt h)) ?_ (nm_r (e' := nI 4) (nI_1 3) ?_)))⟩
  · rw [Int64.and_zero, show qa_u 0 = 0 from by decide, qa_cnt_0, nI_add, Nat.add_zero]
  exact br_t (by decide) H
theorem qv_below0 {post : Int32 → Prop} {v : Nat} (hv : v < 6) (H : post (nI 0)) : wpX_onesBelow post (sX, sY, sZ, a1, a2, a3, a4, a5, a6) (nI v) 0 := by
  have e : ∀ x : Int64, nI 0 + nI (qa_cnt (qa_u (x &&& 0))) = nI 0 := by
    intro x
    rw [Int64.and_zero, show qa_u 0 = 0 from by decide, qa_cnt_0, nI_add, Nat.add_zero]
  refine Exists.intro 5 ?_
  refine br_f (by decide) ⟨qw_in (i := 0) hv (by decide), qw_lmz (i := 0) (by decide) (qa_ones (nm_r (e' := nI 0) (e _) (nm_r (e' := nI 1) (nI_1 0) ?_)))⟩
  refine br_f (by decide) ⟨qw_in (i := 1) hv (by decide), qw_lmz (i := 1) (by decide) (qa_ones (nm_r (e' := nI 0) (e _) (nm_r (e' := nI 2) (nI_1 1) ?_)))⟩
  refine br_f (by decide) ⟨qw_in (i := 2) hv (by decide), qw_lmz (i := 2) (by decide) (qa_ones (nm_r (e' := nI 0) (e _) (nm_r (e' := nI 3) (nI_1 2) ?_)))⟩
  refine br_f (by decide) ⟨qw_in (i := 3) hv (by decide), qw_lmz (i := 3) (by decide) (qa_ones (nm_r (e' := nI 0) (e _) (nm_r (e' := nI 4) (nI_1 3) ?_)))⟩
  exact br_t (by decide) H
theorem qv_count {post : Int32 → Prop} {v h : Nat} {W0 : Int64} (hv : v < 6) (hh : h < 256) (w0 : a1 (4 * v) = W0) (w1 : a1 (4 * v + 1) = lN h) (H : post (nI (qa_cnt (qa_u W0) + qa_cnt h))) : wpX_count post (sX, sY, sZ, a1, a2, a3, a4, a5, a6) (nI v) 0 71 := by
  unfold wpX_count
  refine qw_bad hv (br_t rfl (br_t (by decide) ?_))
  unfold wX_count_18
  refine br_t (by decide) ?_
  unfold wX_count_34
  refine br_t (by decide) (qv_below (by decide) hv hh w0 w1 (qv_below0 hv ?_))
  rw [pk_sub (Nat.zero_le _), Nat.sub_zero]
  exact H
theorem qv_wordX {post : Int64 → Prop} {k : Nat} (hk : k < 2 ^ 31) (H : ∀ r : Int64, (k < 4 → r = a3 k) → post r) : wpX_wordX post (sX, sY, sZ, a1, a2, a3, a4, a5, a6) (nI k) := by
  unfold wpX_wordX
  refine br_f (nI_pos hk) (pk_le k 3 (fun z => ⟨pk_in k 4 (by omega), H _ (fun _ => by rw [nI_clamp hk])⟩) (fun z => H _ (fun y => absurd y (by omega))))
theorem qv_windowX {post : Int64 → Prop} {k : Nat} {p : Int32} (hk : k < 1000) (h1 : p >>> ((6 : Int32) &&& 31) = nI k) (h2 : p &&& 63 = 8)
    (H : ∀ r s : Int64, (k < 4 → r = a3 k) → (k + 1 < 4 → s = a3 (k + 1)) → post ((r.toUInt64 >>> ((8 : Int32).toInt64.toUInt64 &&& Int64.toUInt64 63)).toInt64 ||| (s <<< (((64 : Int32) - 8).toInt64 &&& 63)))) : wpX_windowX post (sX, sY, sZ, a1, a2, a3, a4, a5, a6) p := by
  unfold wpX_windowX
  refine nm_r (e' := nI k) h1 (nm_r (e' := 8) h2 (qv_wordX (by omega) (fun r hr => br_f (by decide) ?_)))
  rw [nI_1]
  exact qv_wordX (by omega) (fun s hs => H r s hr hs)
theorem qv_shift {post : St2 → Prop} {h : Nat} (hh : h < 256) (x1 : a3 1 = lN h) (x2 : a3 2 = 0) (x3 : a3 3 = 0) (H : ∀ z : Nat → Int64, z 0 = 0 → z 1 = 0 → post (sX, sY, sZ, a1, a2, a3, a4, z, a6)) : wpX_shift post (sX, sY, sZ, a1, a2, a3, a4, a5, a6) 72 := by
  have e0 : ∀ h, h < 256 → ((lN h).toUInt64 >>> ((8 : Int32).toInt64.toUInt64 &&& Int64.toUInt64 63)).toInt64 ||| ((0 : Int64) <<< (((64 : Int32) - 8).toInt64 &&& 63)) = 0 := by decide +kernel
  have e1 : ((0 : Int64).toUInt64 >>> ((8 : Int32).toInt64.toUInt64 &&& Int64.toUInt64 63)).toInt64 ||| ((0 : Int64) <<< (((64 : Int32) - 8).toInt64 &&& 63)) = 0 := by decide +kernel
  refine Exists.intro 5 ?_
  refine br_f (by decide) (qv_windowX (k := 1) (by decide) (by decide) (by decide) (fun r s hr hs => ⟨qw_i4 (i := 0) (by decide), nm_r (e' := vp_updL a5 0 0) ?_ (nm_r (e' := nI 1) (nI_1 0) ?_)⟩))
  · rw [hr (by decide), hs (by decide), x1, x2, e0 h hh]
    rfl
  refine br_f (by decide) (qv_windowX (k := 2) (by decide) (by decide) (by decide) (fun r s hr hs => ⟨qw_i4 (i := 1) (by decide), nm_r (e' := vp_updL (vp_updL a5 0 0) 1 0) ?_ (nm_r (e' := nI 2) (nI_1 1) ?_)⟩))
  · rw [hr (by decide), hs (by decide), x2, x3, e1]
    rfl
  refine br_f (by decide) (qv_windowX (k := 3) (by decide) (by decide) (by decide) (fun r2 s2 _ _ => ⟨qw_i4 (i := 2) (by decide), nm_e (nm_r (e' := nI 3) (nI_1 2) ?_)⟩))
  refine br_f (by decide) (qv_windowX (k := 4) (by decide) (by decide) (by decide) (fun r3 s3 _ _ => ⟨qw_i4 (i := 3) (by decide), nm_e (nm_r (e' := nI 4) (nI_1 3) ?_)⟩))
  exact br_t (by decide) (H _ rfl rfl)
theorem qv_change {post : Int32 → St2 → Prop} {t v h : Nat} (ht : t < 6) (hv : v < 6) (hh : h < 256) (sv : a2 v = 72) (w1 : a1 (4 * v + 1) = lN h) (w2 : a1 (4 * v + 2) = 0) (w3 : a1 (4 * v + 3) = 0)
    (H : ∀ w x z : Nat → Int64, w (4 * t) = 0 → w (4 * t + 1) = 0 → w (4 * t + 2) = 0 → w (4 * t + 3) = 0 → post 72 (72, sY, 72, w, upd a2 t 72, x, a4, z, a6)) :
    wpX_change post (sX, sY, sZ, a1, a2, a3, a4, a5, a6) (nI t) 3 (nI v) 72 := by
  unfold wpX_change
  refine qw_bad ht (br_t rfl (qw_bad hv (br_t rfl (br_f (by decide) (br_t (by decide) ?_)))))
  refine qw_loadX hv sv (fun x _ x1 x2 x3 => ?_)
  refine qw_clearZ (fun z _ _ => br_f (by decide) ?_)
  unfold wX_change_73
  refine br_f (by decide) ?_
  unfold wX_change_119 wpX_changeWords
  refine br_f (by decide) (br_f (by decide) (br_f (by decide) (br_f (by decide) (br_f (by decide) (br_t (by decide) (br_f (by decide) (br_f (by decide) ?_)))))))
  refine qv_shift hh (x1.trans w1) (x2.trans w2) (x3.trans w3) (fun z' z0 z1 => ?_)
  refine qw_storeZ ht (fun w e0 e1 e2 e3 e4 => ?_)
  exact H w x z' (e0.trans z0) (by rw [e1, z1, Int64.zero_and]) e2 e3
theorem qv_place {post : Int32 → Prop} {v : Nat} (hv : v < 6) (w0 : a1 (4 * v) = 0) (w1 : a1 (4 * v + 1) = 0) (w2 : a1 (4 * v + 2) = 0) (w3 : a1 (4 * v + 3) = 0) (H : post (-4)) : wpX_place post (sX, sY, sZ, a1, a2, a3, a4, a5, a6) (nI v) 0 := by
  have e : ∀ {x : Int64} {post : Int32 → Prop}, x = 0 → post 0 → wpX_ones post () x := by
    intro x post hx hp
    refine qa_ones ?_
    rw [hx, show qa_u 0 = 0 from by decide, qa_cnt_0]
    exact hp
  unfold wpX_place
  refine qw_bad hv (br_t rfl (br_t (by decide) (Exists.intro 5 ?_)))
  refine br_f (by decide) ⟨qw_in (i := 0) hv (by decide), e ((congrArg a1 (qw_cl (i := 0) hv (by decide))).trans w0) (br_t (by decide) (nm_r (e' := 0) (by decide) (nm_r (e' := nI 1) (nI_1 0) ?_)))⟩
  refine br_f (by decide) ⟨qw_in (i := 1) hv (by decide), e ((congrArg a1 (qw_cl (i := 1) hv (by decide))).trans w1) (br_t (by decide) (nm_r (e' := 0) (by decide) (nm_r (e' := nI 2) (nI_1 1) ?_)))⟩
  refine br_f (by decide) ⟨qw_in (i := 2) hv (by decide), e ((congrArg a1 (qw_cl (i := 2) hv (by decide))).trans w2) (br_t (by decide) (nm_r (e' := 0) (by decide) (nm_r (e' := nI 3) (nI_1 2) ?_)))⟩
  refine br_f (by decide) ⟨qw_in (i := 3) hv (by decide), e ((congrArg a1 (qw_cl (i := 3) hv (by decide))).trans w3) (br_t (by decide) (nm_r (e' := 0) (by decide) (nm_r (e' := nI 4) (nI_1 3) ?_)))⟩
  exact br_t (by decide) H
end
end
section
/-! ===== the law ===== -/
section
variable {sX sY sZ : Int32} {a1 a3 a4 a5 a6 : Nat → Int64} {a2 : Nat → Int32}
/-- a state: the vectors 0 and 1 hold a, p and b, q -/
def qz_K (a b : Int64) (p q : Nat) (a1 : Nat → Int64) (a2 : Nat → Int32) : Prop := (a1 0 = a ∧ a1 1 = lN p ∧ a1 2 = 0 ∧ a1 3 = 0) ∧ (a1 4 = b ∧ a1 5 = lN q ∧ a1 6 = 0 ∧ a1 7 = 0) ∧ a2 0 = 72 ∧ a2 1 = 72
theorem qz_K_keep {a b : Int64} {p q : Nat} {w : Nat → Int64} {s : Nat → Int32} (k : qz_K a b p q a1 a2) (hw : ∀ j, j < 8 → w j = a1 j) (h0 : s 0 = a2 0) (h1 : s 1 = a2 1) : qz_K a b p q w s := by
  obtain ⟨⟨x0, x1, x2, x3⟩, ⟨y0, y1, y2, y3⟩, z0, z1⟩ := k
  exact ⟨⟨(hw 0 (by decide)).trans x0, (hw 1 (by decide)).trans x1, (hw 2 (by decide)).trans x2, (hw 3 (by decide)).trans x3⟩, ⟨(hw 4 (by decide)).trans y0, (hw 5 (by decide)).trans y1, (hw 6 (by decide)).trans y2, (hw 7 (by decide)).trans y3⟩, h0.trans z0, h1.trans z1⟩
theorem qz_tail {post : Int32 → St0 → Prop} {mc ms kc ks : Nat} {x12 : Int32} {a b : Int64} {p q : Nat} (hp : p < 256) (hq : q < 256) (k : qz_K a b p q a1 a2) (H : post 1 ())
    (o1 : ¬ p = q → (q ≤ p → x12 = 1) ∧ (¬ q ≤ p → x12 = -1)) (o2 : p = q → ¬ a = b → (qa_u b ≤ qa_u a → x12 = 1) ∧ (¬ qa_u b ≤ qa_u a → x12 = -1)) (o3 : p = q → a = b → x12 = 0) :
    wL_lawOf_230 post mc ms x12 kc ks sX sY sZ a1 a2 a3 a4 a5 a6 := by
  have k' := k
  obtain ⟨⟨u0, u1, u2, u3⟩, ⟨v0, v1, v2, v3⟩, s0, s1⟩ := k'
  have hpq : lN p = lN q ↔ p = q := pk_lEQ (by omega) (by omega)
  have up : qa_u (lN p) = p := qa_u_lN (by omega)
  have uq : qa_u (lN q) = q := qa_u_lN (by omega)
  have lx := qf_xor hp hq
  have la := qf_and hp hq
  unfold wL_lawOf_230
  refine qv_cmpR (a := 0) (b := 1) (P0 := a) (P1 := lN p) (Q0 := b) (Q1 := lN q) (by decide) (by decide) u0 u1 u2 u3 v0 v1 v2 v3 (fun r r1 r2 r3 => br_t ?_ ?_)
  · rw [hpq, up, uq] at r1
    rw [hpq] at r2 r3
    by_cases e : p = q
    · by_cases e' : a = b
      · rw [r3 e e', o3 e e']
      · by_cases e'' : qa_u b ≤ qa_u a
        · rw [(r2 e e').1 e'', (o2 e e').1 e'']
        · rw [(r2 e e').2 e'', (o2 e e').2 e'']
    · by_cases e'' : q ≤ p
      · rw [(r1 e).1 e'', (o1 e).1 e'']
      · rw [(r1 e).2 e'', (o1 e).2 e'']
  refine qw_combine (t := 4) (a := 0) (b := 1) (kind := 2) (f0 := a ^^^ b) (f1 := lN p ^^^ lN q) (by decide) (by decide) (by decide) s0 s1 (by decide) u0 u1 v0 v1 (fun Q x y z x0 x1 y0 y1 h => qw_xor (fun z' e0 e1 => h z' (by rw [e0, x0, y0]) (by rw [e1, x1, y1]))) (fun w x y z e0 e1 e2 e3 e4 => ?_)
  have kw : qz_K a b p q w (upd a2 4 72) := qz_K_keep k (fun j hj => e4 j (by omega)) (pk_un (by decide)) (pk_un (by decide))
  have kw' := kw
  obtain ⟨⟨u0, u1, u2, u3⟩, ⟨v0, v1, v2, v3⟩, s0, s1⟩ := kw'
  have w41 : w 17 = lN (p ^^^ q) := by
    rw [show w 17 = _ from e1, lx.1, qf_255 _ (by omega), Nat.mod_eq_of_lt lx.2]
  refine qw_combine (t := 5) (a := 0) (b := 1) (kind := 0) (f0 := a &&& b) (f1 := lN p &&& lN q) (by decide) (by decide) (by decide) s0 s1 (by decide) u0 u1 v0 v1 (fun Q x y z x0 x1 y0 y1 h => qw_and (fun z' e0 e1 => h z' (by rw [e0, x0, y0]) (by rw [e1, x1, y1]))) (fun w' x' y' z' e0' e1' e2' e3' e4' => ?_)
  have kv : qz_K a b p q w' (upd (upd a2 4 72) 5 72) := qz_K_keep kw (fun j hj => e4' j (by omega)) (pk_un (by decide)) (pk_un (by decide))
  obtain ⟨⟨u0, u1, u2, u3⟩, ⟨v0, v1, v2, v3⟩, s0, s1⟩ := kv
  have w51 : w' 21 = lN (p &&& q) := by
    rw [show w' 21 = _ from e1', la.1, qf_255 _ (by omega), Nat.mod_eq_of_lt la.2]
  have w40 : w' 16 = a ^^^ b := (e4' 16 (by omega)).trans e0
  have w41' : w' 17 = lN (p ^^^ q) := (e4' 17 (by omega)).trans w41
  refine qv_count (v := 0) (by decide) hp u0 u1 (qv_count (v := 1) (by decide) hq v0 v1 (nm_e (qv_count (v := 4) (by decide) lx.2 w40 w41' (qv_count (v := 5) (by decide) la.2 e0' w51 (br_t ?_ ?_)))))
  · have g1 := qa_cnt_law (qa_u a) (qa_u b)
    have g2 := qa_cnt_law p q
    rw [qa_u_xor, qa_u_and, show (2 : Int32) = nI 2 from rfl, pk_mul, nI_add, nI_add]
    congr 1
    omega
  refine qv_change (t := 4) (v := 5) (by decide) (by decide) la.2 pk_us w51 e2' e3' (fun w'' x'' z'' d0 d1 d2 d3 => br_t rfl ?_)
  exact qv_place (v := 4) (by decide) d0 d1 d2 d3 (br_t rfl H)
theorem qz_194 {post : Int32 → St0 → Prop} {mc ms kc ks : Nat} {z0 : Int32} {a b : Int64} {p q : Nat} (hp : p < 256) (hq : q < 256) (k : qz_K a b p q a1 a2) (H : post 1 ())
    (o1 : ¬ p = q → (q ≤ p → z0 = 1) ∧ (¬ q ≤ p → z0 = -1)) (o2 : p = q → z0 = 0) :
    wL_lawOf_194 post mc ms a b (nI p) (nI q) z0 kc ks sX sY sZ a1 a2 a3 a4 a5 a6 := by
  unfold wL_lawOf_194
  refine pk_eq p q (fun e => br_c (fun g => qz_tail hp hq k H o1 (fun _ h => absurd g h) (fun _ _ => o2 e)) (fun g => br_c (fun f => ?_) (fun f => ?_))) (fun e => qz_tail hp hq k H o1 (fun h => absurd h e) (fun h => absurd h e))
  · rw [← qf_sx, ← qf_sx, qf_le] at f
    unfold wL_lawOf_228
    exact qz_tail hp hq k H (fun h => absurd e h) (fun _ _ => ⟨fun _ => rfl, fun h => absurd f h⟩) (fun _ h => absurd h g)
  · rw [← qf_sx, ← qf_sx, qf_le] at f
    unfold wL_lawOf_228
    exact qz_tail hp hq k H (fun h => absurd e h) (fun _ _ => ⟨fun h => absurd h f, fun _ => rfl⟩) (fun _ h => absurd h g)
theorem qz_loop {post : Int32 → St0 → Prop} {mc ms kc ks : Nat} {a b : Int64} {p q t : Nat} (hp : p < 256) (hq : q < 256) (ht : t < 256) (k : qz_K a b p q a1 a2) (s3 : a2 3 = 72) (w3 : a1 13 = lN t) (H : post 1 ()) :
    ∃ n, wL_lawOf_126 post mc ms a b (nI p) (nI q) (nI t) kc ks sX sY sZ a1 a2 a3 a4 a5 a6 n 0 := by
  refine pk_loop (σ := Unit) (fun n i _ => wL_lawOf_126 post mc ms a b (nI p) (nI q) (nI t) kc ks sX sY sZ a1 a2 a3 a4 a5 a6 n (nI i)) (fun _ _ => True) 8 0 () (by decide) trivial ?_ ?_
  · intro n _ _
    refine pk_le 8 8 (fun _ => ?_) (fun z => absurd z (by decide))
    refine pk_eq p q (fun e => qz_194 hp hq k H (fun h => absurd e h) (fun _ => rfl)) (fun e => pk_le q p (fun g => qz_194 hp hq k H (fun _ => ⟨fun _ => rfl, fun h => absurd g h⟩) (fun h => absurd h e)) (fun g => qz_194 hp hq k H (fun _ => ⟨fun h => absurd h (by omega), fun _ => rfl⟩) (fun h => absurd h e)))
  · intro n i _ hi _ hw
    refine pk_le 8 i (fun z => absurd z (by omega)) (fun _ => ?_)
    refine qv_get (v := 3) (by decide) hi ht s3 w3 (fun g => ek_if (qf_bit32 t ht i hi) (fun _ => ?_) (fun h => absurd g h)) (fun g => ek_if (qf_bit32 t ht i hi) (fun h => absurd h g) (fun _ => ?_))
    · unfold wL_lawOf_160
      exact br_t rfl (nm_r (nI_1 i) (hw () trivial))
    · unfold wL_lawOf_160
      exact br_t rfl (nm_r (nI_1 i) (hw () trivial))
end
theorem qz_lawOf (post : Int32 → St0 → Prop) (a b : Int64) (h : Int32) (H : post 1 ()) : wpL_lawOf post 64 1008 () a b h := by
  unfold wpL_lawOf
  refine ⟨by decide, by decide, 63, 999, by decide, by decide, ?_⟩
  unfold wpX_init
  refine ⟨by decide, by decide, by decide, by decide, by decide, by decide, by decide, by decide, by decide, by decide, by decide, by decide, ?_⟩
  obtain ⟨p, hp, ep⟩ := pk_andE h (m := 255) 8 (by decide)
  obtain ⟨q, hq, eq⟩ := pk_andE (h >>> ((8 : Int32) &&& 31)) (m := 255) 8 (by decide)
  have hc : qw_cy a b < 2 := by
    have := qa_u_lt ((a &&& b) ||| ((a ||| b) &&& ((a + b) ^^^ (-1))))
    unfold qw_cy
    omega
  generalize hcc : qw_cy a b = c at hc
  have ht : (p + q + c) % 256 < 256 := Nat.mod_lt _ (by decide)
  refine nm_r (e' := nI p) ep (nm_r (e' := nI q) eq ?_)
  refine qw_fill (v := 0) (by decide) hp (fun w z e0 e1 e2 e3 e4 => ?_)
  refine qw_fill (v := 1) (by decide) hq (fun w' z' e0' e1' e2' e3' e4' => ?_)
  refine nm_e (nm_r (e' := nI c) ?_ (nm_r (e' := nI ((p + q + c) % 256)) ?_ ?_))
  · rw [← hcc]
    exact qf_top _
  · rw [nI_add, nI_add, pk_andN (by omega) 8 (by decide)]
  refine qw_fill (v := 2) (by decide) ht (fun w2 z2 d0 d1 d2 d3 d4 => ?_)
  have k : qz_K a b p q w2 (upd (upd (upd (fun _ => 0) 0 72) 1 72) 2 72) := ⟨⟨(d4 0 (by decide)).trans ((e4' 0 (by decide)).trans e0), (d4 1 (by decide)).trans ((e4' 1 (by decide)).trans e1), (d4 2 (by decide)).trans ((e4' 2 (by decide)).trans e2), (d4 3 (by decide)).trans ((e4' 3 (by decide)).trans e3)⟩, ⟨(d4 4 (by decide)).trans e0', (d4 5 (by decide)).trans e1', (d4 6 (by decide)).trans e2', (d4 7 (by decide)).trans e3'⟩, rfl, rfl⟩
  have k' := k
  obtain ⟨⟨u0, u1, u2, u3⟩, ⟨v0, v1, v2, v3⟩, s0, s1⟩ := k'
  refine qw_combine (t := 3) (a := 0) (b := 1) (kind := 3) (f0 := a + b) (f1 := lN p + lN q + lN c) (by decide) (by decide) (by decide) s0 s1 (by decide) u0 u1 v0 v1 (fun Q x y z x0 x1 y0 y1 h => qw_plus (fun z' g0 g1 => h z' (by rw [g0, x0, y0]) (by rw [g1, x0, y0, x1, y1, hcc]))) (fun w3 x y z g0 g1 g2 g3 g4 => br_t rfl ?_)
  have hw3 : w3 13 = lN ((p + q + c) % 256) := by
    rw [show w3 13 = _ from g1, lN_add, lN_add, qf_255 _ (by omega)]
  refine qv_cmpR (a := 3) (b := 2) (by decide) (by decide) g0 hw3 g2 g3 ((g4 8 (by decide)).trans d0) ((g4 9 (by decide)).trans d1) ((g4 10 (by decide)).trans d2) ((g4 11 (by decide)).trans d3) (fun r _ _ r3 => br_t (r3 rfl rfl) ?_)
  exact qz_loop hp hq ht (qz_K_keep k (fun j hj => g4 j (by omega)) rfl rfl) rfl hw3 H
theorem qz_cell {post : Int32 → Prop} {L : Nat} {xs : Nat → Int32} {u : St0} {k : Nat} (hL : L ≤ 5) (hk : k < 5) (H : ∀ r, post r) : wpL_cellAt post L xs u (nI k) := by
  unfold wpL_cellAt
  exact pk_le L k (fun _ => H _) (fun z => ⟨pk_in k L z, H _⟩)
theorem i_vc (xs : Nat → Int32) (L : Nat) (hL : L ≤ 5) : wpL_law (fun r => r = 1) L xs := by
  unfold wpL_law
  refine qz_cell (k := 0) hL (by decide) (fun r1 => ?_)
  refine qz_cell (k := 1) hL (by decide) (fun r2 => ?_)
  refine qz_cell (k := 2) hL (by decide) (fun r3 => ?_)
  refine qz_cell (k := 3) hL (by decide) (fun r4 => ?_)
  refine qz_cell (k := 4) hL (by decide) (fun r5 => ?_)
  exact ⟨64, 1008, by decide, by decide, qz_lawOf _ _ _ _ rfl⟩
end
