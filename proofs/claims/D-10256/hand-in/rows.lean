section
/-! ===== lN n to 2^64: shifts, and, or, masks, one bit ===== -/
theorem wb_tb (n : Nat) : (lN n).toBitVec = BitVec.ofNat 64 n := rfl
theorem wb_inj {a b : Int64} (h : a.toBitVec = b.toBitVec) : a = b := Int64.toBitVec_inj.mp h
theorem wb_tn {n : Nat} (h : n < 2 ^ 64) : (lN n).toBitVec.toNat = n := by rw [wb_tb, BitVec.toNat_ofNat, Nat.mod_eq_of_lt h]
theorem wb_of (x : Int64) : ∃ n, n < 2 ^ 64 ∧ x = lN n := ⟨x.toBitVec.toNat, x.toBitVec.isLt, wb_inj (by rw [wb_tb]; simp)⟩
theorem wb_of32 (x : Int32) : ∃ n, n < 2 ^ 32 ∧ x = nI n := ⟨x.toBitVec.toNat, x.toBitVec.isLt, Int32.toBitVec_inj.mp (by show _ = BitVec.ofNat 32 _; simp)⟩
theorem wb_c : ∀ k, k < 64 → ((nI k).toInt64 &&& 63) = lN k := by decide +kernel
theorem wb_cu : ∀ k, k < 64 → ((nI k).toInt64.toUInt64 &&& Int64.toUInt64 63) = UInt64.ofNat k := by decide +kernel
theorem wb_sm : ∀ k, k < 64 → (BitVec.ofNat 64 k).smod 64 = BitVec.ofNat 64 k := by decide +kernel
theorem wb_pw {a b : Nat} (h : a ≤ b) : 2 ^ b = 2 ^ a * 2 ^ (b - a) := by rw [← Nat.pow_add]; congr 1; omega
theorem wb_lt2 {a b : Nat} (h : a < b) : 2 ^ a < 2 ^ b := Nat.pow_lt_pow_right (by decide) h
theorem wb_mod (n : Nat) : lN n = lN (n % 2 ^ 64) := wb_inj (by rw [wb_tb, wb_tb]; apply BitVec.eq_of_toNat_eq; rw [BitVec.toNat_ofNat, BitVec.toNat_ofNat, Nat.mod_mod])
theorem wb_shr {n k : Nat} (hn : n < 2 ^ 64) (hk : k < 64) : ((lN n).toUInt64 >>> ((nI k).toInt64.toUInt64 &&& Int64.toUInt64 63)).toInt64 = lN (n / 2 ^ k) := by
  rw [wb_cu k hk]
  apply wb_inj
  apply BitVec.eq_of_toNat_eq
  show ((lN n).toUInt64 >>> UInt64.ofNat k).toNat = (BitVec.ofNat 64 _).toNat
  have h1 : (UInt64.ofNat k).toNat = k := by
    show (BitVec.ofNat 64 k).toNat = k
    rw [BitVec.toNat_ofNat, Nat.mod_eq_of_lt (by omega)]
  have h2 : (lN n).toUInt64.toNat = n := wb_tn hn
  rw [UInt64.toNat_shiftRight, h1, h2, Nat.mod_eq_of_lt hk, Nat.shiftRight_eq_div_pow, BitVec.toNat_ofNat, Nat.mod_eq_of_lt (Nat.lt_of_le_of_lt (Nat.div_le_self _ _) hn)]
theorem wb_shl (n : Nat) {k : Nat} (hk : k < 64) : lN n <<< ((nI k).toInt64 &&& 63) = lN (n * 2 ^ k) := by
  rw [wb_c k hk]
  apply wb_inj
  rw [Int64.toBitVec_shiftLeft, wb_tb, wb_tb, wb_tb, wb_sm k hk]
  apply BitVec.eq_of_toNat_eq
  rw [BitVec.shiftLeft_eq', BitVec.toNat_shiftLeft, BitVec.toNat_ofNat, BitVec.toNat_ofNat, BitVec.toNat_ofNat, Nat.mod_eq_of_lt (show k < 2 ^ 64 by omega), Nat.shiftLeft_eq, Nat.mul_mod, Nat.mod_mod, ← Nat.mul_mod]
theorem wb_and {a b : Nat} (ha : a < 2 ^ 64) (hb : b < 2 ^ 64) : lN a &&& lN b = lN (a &&& b) := by
  apply wb_inj
  rw [Int64.toBitVec_and, wb_tb, wb_tb, wb_tb]
  apply BitVec.eq_of_toNat_eq
  rw [BitVec.toNat_and, BitVec.toNat_ofNat, BitVec.toNat_ofNat, BitVec.toNat_ofNat, Nat.mod_eq_of_lt ha, Nat.mod_eq_of_lt hb, Nat.mod_eq_of_lt (Nat.and_lt_two_pow _ hb)]
theorem wb_or {a b : Nat} (ha : a < 2 ^ 64) (hb : b < 2 ^ 64) : lN a ||| lN b = lN (a ||| b) := by
  apply wb_inj
  rw [Int64.toBitVec_or, wb_tb, wb_tb, wb_tb]
  apply BitVec.eq_of_toNat_eq
  rw [BitVec.toNat_or, BitVec.toNat_ofNat, BitVec.toNat_ofNat, BitVec.toNat_ofNat, Nat.mod_eq_of_lt ha, Nat.mod_eq_of_lt hb, Nat.mod_eq_of_lt (Nat.or_lt_two_pow ha hb)]
theorem wb_mask {n k : Nat} (hn : n < 2 ^ 64) (hk : k < 64) : lN n &&& lN (2 ^ k - 1) = lN (n % 2 ^ k) := by
  rw [wb_and hn (by have := wb_lt2 hk; omega), Nat.and_two_pow_sub_one_eq_mod]
theorem wb_a1 {n : Nat} (hn : n < 2 ^ 64) : lN n &&& 1 = lN (n % 2) := wb_mask (k := 1) hn (by decide)
theorem wb_bit {n k : Nat} (hn : n < 2 ^ 64) (hk : k < 64) : ((lN n).toUInt64 >>> ((nI k).toInt64.toUInt64 &&& Int64.toUInt64 63)).toInt64 &&& 1 = lN (n / 2 ^ k % 2) := by
  rw [wb_shr hn hk, wb_a1 (Nat.lt_of_le_of_lt (Nat.div_le_self _ _) hn)]
/-! ===== nI under and, xor, >>>, one bit, 65535 ===== -/
theorem nx_and (a b : Nat) : nI a &&& nI b = nI (a &&& b) := by
  apply Int32.toBitVec_inj.1
  show BitVec.ofNat 32 a &&& BitVec.ofNat 32 b = BitVec.ofNat 32 (a &&& b)
  apply BitVec.eq_of_getLsbD_eq
  intro i hi
  simp [hi]
end
section
/-! ===== bytes: er_by n g is the number with the bytes g 0 .. g (n - 1), the lowest first ===== -/
def er_by : Nat → (Nat → Nat) → Nat
  | 0, _ => 0
  | n + 1, g => g 0 + 256 * er_by n (fun i => g (i + 1))
theorem er_sand {a b c d : Nat} (hb : b < 256) (hd : d < 256) : (b + 256 * a) &&& (d + 256 * c) = (b &&& d) + 256 * (a &&& c) := by
  have h1 : ((b + 256 * a) &&& (d + 256 * c)) % 2 ^ 8 = (b + 256 * a) % 2 ^ 8 &&& (d + 256 * c) % 2 ^ 8 := Nat.and_mod_two_pow
  have h2 : ((b + 256 * a) &&& (d + 256 * c)) / 2 ^ 8 = (b + 256 * a) / 2 ^ 8 &&& (d + 256 * c) / 2 ^ 8 := Nat.and_div_two_pow
  rw [show (b + 256 * a) % 2 ^ 8 = b by omega, show (d + 256 * c) % 2 ^ 8 = d by omega] at h1
  rw [show (b + 256 * a) / 2 ^ 8 = a by omega, show (d + 256 * c) / 2 ^ 8 = c by omega] at h2
  rw [← h1, ← h2]
  omega
theorem er_by_and : ∀ (n : Nat) (u v : Nat → Nat), (∀ i, u i < 256) → (∀ i, v i < 256) → er_by n u &&& er_by n v = er_by n (fun i => u i &&& v i)
  | 0, _, _, _, _ => Nat.zero_and 0
  | n + 1, u, v, hu, hv => by
    show (u 0 + 256 * er_by n (fun i => u (i + 1))) &&& (v 0 + 256 * er_by n (fun i => v (i + 1))) = (u 0 &&& v 0) + 256 * er_by n (fun i => u (i + 1) &&& v (i + 1))
    rw [er_sand (hu 0) (hv 0), er_by_and n _ _ (fun i => hu (i + 1)) (fun i => hv (i + 1))]
theorem er_by_shr (p q : Nat) (h : p = 2 ∧ q = 128 ∨ p = 4 ∧ q = 64 ∨ p = 16 ∧ q = 16) : ∀ (n : Nat) (u : Nat → Nat), u n = 0 → er_by n u / p = er_by n (fun i => u i / p + u (i + 1) % p * q)
  | 0, _, _ => Nat.zero_div p
  | n + 1, u, hu => by
    have ih := er_by_shr p q h n (fun i => u (i + 1)) hu
    have hm : er_by n (fun i => u (i + 1)) % p = u 1 % p := by
      cases n with
      | zero =>
        show 0 % p = u 1 % p
        rw [show u 1 = 0 from hu]
      | succ m =>
        show (u 1 + 256 * er_by m (fun i => u (i + 1 + 1))) % p = u 1 % p
        generalize er_by m (fun i => u (i + 1 + 1)) = R
        rcases h with ⟨rfl, rfl⟩ | ⟨rfl, rfl⟩ | ⟨rfl, rfl⟩ <;> omega
    show (u 0 + 256 * er_by n (fun i => u (i + 1))) / p = (u 0 / p + u 1 % p * q) + 256 * er_by n (fun i => u (i + 1) / p + u (i + 1 + 1) % p * q)
    rw [← ih]
    generalize er_by n (fun i => u (i + 1)) = R at hm
    rcases h with ⟨rfl, rfl⟩ | ⟨rfl, rfl⟩ | ⟨rfl, rfl⟩ <;> omega
theorem er_by_add : ∀ (n : Nat) (u v : Nat → Nat), er_by n u + er_by n v = er_by n (fun i => u i + v i)
  | 0, _, _ => rfl
  | n + 1, u, v => by
    have ih := er_by_add n (fun i => u (i + 1)) (fun i => v (i + 1))
    show (u 0 + 256 * er_by n (fun i => u (i + 1))) + (v 0 + 256 * er_by n (fun i => v (i + 1))) = (u 0 + v 0) + 256 * er_by n (fun i => u (i + 1) + v (i + 1))
    rw [← ih]
    omega
theorem er_by_c (n : Nat) {u v : Nat → Nat} (h : ∀ i, u i = v i) : er_by n u = er_by n v := by rw [show u = v from funext h]
theorem er_by_sub (n : Nat) (u v : Nat → Nat) (h : ∀ i, v i ≤ u i) : er_by n v ≤ er_by n u ∧ er_by n u - er_by n v = er_by n (fun i => u i - v i) := by
  have e := er_by_add n (fun i => u i - v i) v
  rw [er_by_c n (u := fun i => u i - v i + v i) (v := u) (fun i => Nat.sub_add_cancel (h i))] at e
  omega
theorem er_by_of : ∀ (n B : Nat), B < 256 ^ n → er_by n (fun i => B / 256 ^ i % 256) = B
  | 0, B, h => by
    have h' : B < 1 := h
    show 0 = B
    omega
  | n + 1, B, h => by
    have ih := er_by_of n (B / 256) (by rw [Nat.pow_succ] at h; omega)
    have e : (fun i => B / 256 ^ (i + 1) % 256) = (fun i => (B / 256) / 256 ^ i % 256) := funext (fun i => by rw [Nat.pow_succ', Nat.div_div_eq_div_mul])
    show B / 256 ^ 0 % 256 + 256 * er_by n (fun i => B / 256 ^ (i + 1) % 256) = B
    rw [e, ih, Nat.pow_zero, Nat.div_one]
    omega
theorem er_by_lt : ∀ (n : Nat) (u : Nat → Nat), (∀ i, u i < 256) → er_by n u < 256 ^ n
  | 0, _, _ => by show 0 < 1; omega
  | n + 1, u, h => by
    have ih := er_by_lt n (fun i => u (i + 1)) (fun i => h (i + 1))
    have h0 := h 0
    show u 0 + 256 * er_by n (fun i => u (i + 1)) < 256 ^ (n + 1)
    rw [Nat.pow_succ]
    omega
/-! ===== the count of ones, bytewise ===== -/
def er_pc (a : Nat) : Nat := a % 2 + a / 2 % 2 + a / 4 % 2 + a / 8 % 2 + a / 16 % 2 + a / 32 % 2 + a / 64 % 2 + a / 128 % 2
def er_y1 (a : Nat) : Nat := a - (a / 2 &&& 85)
def er_y2 (a : Nat) : Nat := (a &&& 51) + (a / 4 &&& 51)
theorem er_f1 : ∀ a, a < 256 → ∀ b, b < 2 → (a / 2 + b * 128) &&& 85 = a / 2 &&& 85 := by decide +kernel
theorem er_f2 : ∀ a, a < 256 → ∀ b, b < 4 → (a / 4 + b * 64) &&& 51 = a / 4 &&& 51 := by decide +kernel
theorem er_f3 : ∀ a, a < 256 → (a / 2 &&& 85) ≤ a := by decide +kernel
theorem er_f4 : ∀ a, a < 256 → er_y2 (er_y1 a) % 16 ≤ 4 ∧ er_y2 (er_y1 a) / 16 ≤ 4 ∧ er_y2 (er_y1 a) % 16 + er_y2 (er_y1 a) / 16 = er_pc a := by decide +kernel
theorem er_y1_lt {a : Nat} (h : a < 256) : er_y1 a < 256 := Nat.lt_of_le_of_lt (Nat.sub_le _ _) h
theorem er_s1 (u : Nat → Nat) (hu : ∀ i, u i < 256) (h8 : u 8 = 0) : (er_by 8 u / 2 &&& 6148914691236517205) ≤ er_by 8 u ∧ er_by 8 u - (er_by 8 u / 2 &&& 6148914691236517205) = er_by 8 (fun i => er_y1 (u i)) := by
  have e : er_by 8 u / 2 &&& 6148914691236517205 = er_by 8 (fun i => u i / 2 &&& 85) := by
    rw [er_by_shr 2 128 (Or.inl ⟨rfl, rfl⟩) 8 u h8, show (6148914691236517205 : Nat) = er_by 8 (fun _ => 85) from by decide +kernel]
    rw [er_by_and 8 _ _ (fun i => by have := hu i; omega) (fun _ => by decide)]
    exact er_by_c 8 (fun i => er_f1 (u i) (hu i) _ (by omega))
  rw [e]
  exact er_by_sub 8 u (fun i => u i / 2 &&& 85) (fun i => er_f3 (u i) (hu i))
theorem er_s2 (u : Nat → Nat) (hu : ∀ i, u i < 256) (h8 : u 8 = 0) : (er_by 8 u &&& 3689348814741910323) + (er_by 8 u / 4 &&& 3689348814741910323) = er_by 8 (fun i => er_y2 (u i)) := by
  have c : (3689348814741910323 : Nat) = er_by 8 (fun _ => 51) := by decide +kernel
  have e : er_by 8 u / 4 &&& 3689348814741910323 = er_by 8 (fun i => u i / 4 &&& 51) := by
    rw [er_by_shr 4 64 (Or.inr (Or.inl ⟨rfl, rfl⟩)) 8 u h8, c]
    rw [er_by_and 8 _ _ (fun i => by have := hu i; omega) (fun _ => by decide)]
    exact er_by_c 8 (fun i => er_f2 (u i) (hu i) _ (by omega))
  rw [e, c, er_by_and 8 u _ hu (fun _ => by decide), er_by_add]
  rfl
theorem er_s3 (u v : Nat → Nat) (hu : ∀ i, u i % 16 ≤ 4 ∧ u i / 16 ≤ 4 ∧ u i % 16 + u i / 16 = v i) (h8 : u 8 = 0) : (er_by 8 u + er_by 8 u / 16) &&& 1085102592571150095 = er_by 8 v := by
  rw [er_by_shr 16 16 (Or.inr (Or.inr ⟨rfl, rfl⟩)) 8 u h8, er_by_add, show (1085102592571150095 : Nat) = er_by 8 (fun _ => 15) from by decide +kernel]
  rw [er_by_and 8 _ _ (fun i => by have := hu i; have := hu (i + 1); omega) (fun _ => by decide)]
  refine er_by_c 8 (fun i => ?_)
  have h1 := hu i
  have h2 := hu (i + 1)
  have e := Nat.and_two_pow_sub_one_eq_mod (u i + (u i / 16 + u (i + 1) % 16 * 16)) 4
  refine e.trans ?_
  omega
theorem er_s4' {x y z : Nat} (hx : x < 72057594037927936) (hy : y ≤ 64) : (x + 72057594037927936 * y + 18446744073709551616 * z) % 2 ^ 64 / 2 ^ 56 = y := by omega
theorem er_s4 (p0 p1 p2 p3 p4 p5 p6 p7 : Nat) (h0 : p0 ≤ 8) (h1 : p1 ≤ 8) (h2 : p2 ≤ 8) (h3 : p3 ≤ 8) (h4 : p4 ≤ 8) (h5 : p5 ≤ 8) (h6 : p6 ≤ 8) (h7 : p7 ≤ 8) :
    (p0 + 256 * (p1 + 256 * (p2 + 256 * (p3 + 256 * (p4 + 256 * (p5 + 256 * (p6 + 256 * (p7 + 256 * 0)))))))) * 72340172838076673 % 2 ^ 64 / 2 ^ 56 = p0 + p1 + p2 + p3 + p4 + p5 + p6 + p7 := by
  have e : (p0 + 256 * (p1 + 256 * (p2 + 256 * (p3 + 256 * (p4 + 256 * (p5 + 256 * (p6 + 256 * (p7 + 256 * 0)))))))) * 72340172838076673 = (1 * (p0) + 256 * (p0 + p1) + 65536 * (p0 + p1 + p2) + 16777216 * (p0 + p1 + p2 + p3) + 4294967296 * (p0 + p1 + p2 + p3 + p4) + 1099511627776 * (p0 + p1 + p2 + p3 + p4 + p5) + 281474976710656 * (p0 + p1 + p2 + p3 + p4 + p5 + p6)) + 72057594037927936 * (p0 + p1 + p2 + p3 + p4 + p5 + p6 + p7) + 18446744073709551616 * (1 * (p1 + p2 + p3 + p4 + p5 + p6 + p7) + 256 * (p2 + p3 + p4 + p5 + p6 + p7) + 65536 * (p3 + p4 + p5 + p6 + p7) + 16777216 * (p4 + p5 + p6 + p7) + 4294967296 * (p5 + p6 + p7) + 1099511627776 * (p6 + p7) + 281474976710656 * (p7)) := by omega
  have hl : 1 * (p0) + 256 * (p0 + p1) + 65536 * (p0 + p1 + p2) + 16777216 * (p0 + p1 + p2 + p3) + 4294967296 * (p0 + p1 + p2 + p3 + p4) + 1099511627776 * (p0 + p1 + p2 + p3 + p4 + p5) + 281474976710656 * (p0 + p1 + p2 + p3 + p4 + p5 + p6) < 72057594037927936 := by omega
  have hS : p0 + p1 + p2 + p3 + p4 + p5 + p6 + p7 ≤ 64 := by omega
  rw [e]
  exact er_s4' hl hS
def er_cnt (B : Nat) : Nat → Nat
  | 0 => 0
  | n + 1 => er_cnt B n + B / 2 ^ n % 2
theorem er_cnt8 (B i : Nat) : er_cnt B (8 * i + 8) = er_cnt B (8 * i) + er_pc (B / 256 ^ i % 256) := by
  have e : ∀ k, B / 2 ^ (8 * i + k) = B / 256 ^ i / 2 ^ k := fun k => by rw [Nat.pow_add, Nat.pow_mul, Nat.div_div_eq_div_mul]
  show er_cnt B (8 * i) + B / 2 ^ (8 * i + 0) % 2 + B / 2 ^ (8 * i + 1) % 2 + B / 2 ^ (8 * i + 2) % 2 + B / 2 ^ (8 * i + 3) % 2 + B / 2 ^ (8 * i + 4) % 2 + B / 2 ^ (8 * i + 5) % 2 + B / 2 ^ (8 * i + 6) % 2 + B / 2 ^ (8 * i + 7) % 2 = _
  rw [e 0, e 1, e 2, e 3, e 4, e 5, e 6, e 7]
  unfold er_pc
  generalize B / 256 ^ i = q
  omega
theorem er_pc_le (a : Nat) : er_pc a ≤ 8 := by
  unfold er_pc
  omega
theorem er_sum (B : Nat) (hB : B < 2 ^ 64) : er_by 8 (fun i => er_pc (B / 256 ^ i % 256)) * 72340172838076673 % 2 ^ 64 / 2 ^ 56 = er_cnt B 64 := by
  have e := er_s4 (er_pc (B / 256 ^ 0 % 256)) (er_pc (B / 256 ^ 1 % 256)) (er_pc (B / 256 ^ 2 % 256)) (er_pc (B / 256 ^ 3 % 256)) (er_pc (B / 256 ^ 4 % 256)) (er_pc (B / 256 ^ 5 % 256)) (er_pc (B / 256 ^ 6 % 256)) (er_pc (B / 256 ^ 7 % 256)) (er_pc_le _) (er_pc_le _) (er_pc_le _) (er_pc_le _) (er_pc_le _) (er_pc_le _) (er_pc_le _) (er_pc_le _)
  have c0 := er_cnt8 B 0
  have c1 := er_cnt8 B 1
  have c2 := er_cnt8 B 2
  have c3 := er_cnt8 B 3
  have c4 := er_cnt8 B 4
  have c5 := er_cnt8 B 5
  have c6 := er_cnt8 B 6
  have c7 := er_cnt8 B 7
  have cz : er_cnt B (8 * 0) = 0 := rfl
  refine Eq.trans e ?_
  have c7' : er_cnt B 64 = er_cnt B (8 * 6 + 8) + er_pc (B / 256 ^ 7 % 256) := c7
  have c6' : er_cnt B (8 * 6 + 8) = er_cnt B (8 * 5 + 8) + er_pc (B / 256 ^ 6 % 256) := c6
  have c5' : er_cnt B (8 * 5 + 8) = er_cnt B (8 * 4 + 8) + er_pc (B / 256 ^ 5 % 256) := c5
  have c4' : er_cnt B (8 * 4 + 8) = er_cnt B (8 * 3 + 8) + er_pc (B / 256 ^ 4 % 256) := c4
  have c3' : er_cnt B (8 * 3 + 8) = er_cnt B (8 * 2 + 8) + er_pc (B / 256 ^ 3 % 256) := c3
  have c2' : er_cnt B (8 * 2 + 8) = er_cnt B (8 * 1 + 8) + er_pc (B / 256 ^ 2 % 256) := c2
  have c1' : er_cnt B (8 * 1 + 8) = er_cnt B (8 * 0 + 8) + er_pc (B / 256 ^ 1 % 256) := c1
  rw [c7', c6', c5', c4', c3', c2', c1', c0, cz, Nat.zero_add]
theorem er_ones {post : Int32 → Prop} {B : Nat} (hB : B < 2 ^ 64) (h : post (nI (er_cnt B 64))) : wpX_ones post () (lN B) := by
  have hu : ∀ i, B / 256 ^ i % 256 < 256 := fun i => Nat.mod_lt _ (by decide)
  have h8 : B / 256 ^ 8 % 256 = 0 := by
    rw [show (256 : Nat) ^ 8 = 2 ^ 64 by decide, Nat.div_eq_of_lt hB]
  have hB' : er_by 8 (fun i => B / 256 ^ i % 256) = B := er_by_of 8 B (by rw [show (256 : Nat) ^ 8 = 2 ^ 64 by decide]; exact hB)
  obtain ⟨g1, e1⟩ := er_s1 (fun i => B / 256 ^ i % 256) hu h8
  have e2 := er_s2 (fun i => er_y1 (B / 256 ^ i % 256)) (fun i => er_y1_lt (hu i)) (by show er_y1 (B / 256 ^ 8 % 256) = 0; rw [h8]; decide)
  have e3 := er_s3 (fun i => er_y2 (er_y1 (B / 256 ^ i % 256))) (fun i => er_pc (B / 256 ^ i % 256)) (fun i => er_f4 _ (hu i)) (by show er_y2 (er_y1 (B / 256 ^ 8 % 256)) = 0; rw [h8]; decide)
  have e4 := er_sum B hB
  have l1 : er_by 8 (fun i => er_y1 (B / 256 ^ i % 256)) < 2 ^ 64 := er_by_lt 8 _ (fun i => er_y1_lt (hu i))
  have l2 : er_by 8 (fun i => er_y2 (er_y1 (B / 256 ^ i % 256))) < 2 ^ 64 := er_by_lt 8 _ (fun i => by have := er_f4 _ (hu i); omega)
  have l3 : er_by 8 (fun i => er_y2 (er_y1 (B / 256 ^ i % 256))) + er_by 8 (fun i => er_y2 (er_y1 (B / 256 ^ i % 256))) / 16 < 2 ^ 64 := by
    have t := er_by_add 8 (fun i => er_y2 (er_y1 (B / 256 ^ i % 256))) (fun i => er_y2 (er_y1 (B / 256 ^ i % 256)))
    have t2 : er_by 8 (fun i => er_y2 (er_y1 (B / 256 ^ i % 256)) + er_y2 (er_y1 (B / 256 ^ i % 256))) < 256 ^ 8 := er_by_lt 8 _ (fun i => by have := er_f4 _ (hu i); omega)
    rw [show (256 : Nat) ^ 8 = 2 ^ 64 by decide] at t2
    omega
  rw [hB'] at g1 e1
  generalize er_by 8 (fun i => er_y1 (B / 256 ^ i % 256)) = X1 at *
  generalize er_by 8 (fun i => er_y2 (er_y1 (B / 256 ^ i % 256))) = X2 at *
  generalize er_by 8 (fun i => er_pc (B / 256 ^ i % 256)) = X3 at *
  refine nm_r (e' := lN X1) ?_ (nm_r (e' := lN X2) ?_ (nm_r (e' := lN X3) ?_ ?_))
  · have t : ((lN B).toUInt64 >>> ((1 : Int32).toInt64.toUInt64 &&& Int64.toUInt64 63)).toInt64 = lN (B / 2 ^ 1) := wb_shr (k := 1) hB (by decide)
    rw [t, show (6148914691236517205 : Int64) = lN 6148914691236517205 from rfl, wb_and (Nat.lt_of_le_of_lt (Nat.div_le_self _ _) hB) (by decide), lN_sub g1]
    exact congrArg lN e1
  · have t : ((lN X1).toUInt64 >>> ((2 : Int32).toInt64.toUInt64 &&& Int64.toUInt64 63)).toInt64 = lN (X1 / 2 ^ 2) := wb_shr (k := 2) l1 (by decide)
    rw [t, show (3689348814741910323 : Int64) = lN 3689348814741910323 from rfl, wb_and (Nat.lt_of_le_of_lt (Nat.div_le_self _ _) l1) (by decide), wb_and l1 (by decide), lN_add]
    exact congrArg lN e2
  · have t : ((lN X2).toUInt64 >>> ((4 : Int32).toInt64.toUInt64 &&& Int64.toUInt64 63)).toInt64 = lN (X2 / 2 ^ 4) := wb_shr (k := 4) (by omega) (by decide)
    rw [t, lN_add, show (1085102592571150095 : Int64) = lN 1085102592571150095 from rfl, wb_and (by omega) (by decide)]
    exact congrArg lN e3
  · have t : ((lN (X3 * 72340172838076673 % 2 ^ 64)).toUInt64 >>> ((56 : Int32).toInt64.toUInt64 &&& Int64.toUInt64 63)).toInt64 = lN (X3 * 72340172838076673 % 2 ^ 64 / 2 ^ 56) := wb_shr (k := 56) (Nat.mod_lt _ (by decide)) (by decide)
    rw [show (72340172838076673 : Int64) = lN 72340172838076673 from rfl, lN_mul, wb_mod, t, e4, lN_i]
    exact h
end
section
/-! ===== a line's picture: top T, bits B, c accepted numbers f 0 < f 1 < .., hard limit h ===== -/
def er_P (W T B c h : Nat) (f : Nat → Nat) : Prop :=
  B < 2 ^ 64 ∧ c ≤ 60 ∧ h ≤ 60 ∧ T ≤ 256 * c ∧ (∀ j, j < c → 1 ≤ f j ∧ f j ≤ T) ∧ (∀ i j, i < j → j < c → f i < f j) ∧ (∀ k, k < 64 → (B.testBit k = true ↔ k < W ∧ ∃ j, j < c ∧ f j + k = T)) ∧ (0 < T → ∃ j, j < c ∧ f j = T)
/-- q is the place of x: so many of the list are less -/
def er_pl (c : Nat) (f : Nat → Nat) (x q : Nat) : Prop := q ≤ c ∧ (∀ j, j < q → f j < x) ∧ (∀ j, q ≤ j → j < c → x ≤ f j)
theorem er_tb (B n : Nat) : B.testBit n = true ↔ B / 2 ^ n % 2 = 1 := by
  rw [Nat.testBit_eq_decide_div_mod_eq, decide_eq_true_iff]
theorem er_cnt_le {W T B c h : Nat} {f : Nat → Nat} (P : er_P W T B c h f) : er_cnt B 64 ≤ c := by
  obtain ⟨_, _, _, _, hf, hm, hb, _⟩ := P
  have main : ∀ n, n ≤ 64 → ∃ q, er_cnt B n + q ≤ c ∧ ∀ j, j < c → (j < q ↔ f j + n ≤ T) := by
    intro n
    induction n with
    | zero => exact fun _ => ⟨c, Nat.le_of_eq (Nat.zero_add c), fun j hj => ⟨fun _ => (hf j hj).2, fun _ => hj⟩⟩
    | succ n ih =>
      intro hn
      obtain ⟨q, h1, h2⟩ := ih (by omega)
      have hc : er_cnt B (n + 1) = er_cnt B n + B / 2 ^ n % 2 := rfl
      rcases Classical.em (∃ j, j < c ∧ f j + n = T) with ⟨j, hj, ej⟩ | hx
      · have hjq : j < q := (h2 j hj).mpr (by omega)
        have hq : j = q - 1 := by
          rcases Nat.lt_or_ge j (q - 1) with z | z
          · have a1 := hm j (q - 1) z (by omega)
            have a2 := (h2 (q - 1) (by omega)).mp (by omega)
            omega
          · omega
        refine ⟨q - 1, by omega, fun i hi => ⟨fun z => ?_, fun z => ?_⟩⟩
        · have a1 := hm i j (by omega) hj
          omega
        · rcases Nat.lt_or_ge i j with y | y
          · omega
          · rcases Nat.lt_or_ge j i with y2 | y2
            · have a1 := hm j i y2 hi
              omega
            · have : i = j := by omega
              subst this
              omega
      · have hz : B / 2 ^ n % 2 ≠ 1 := fun e => hx ((hb n (by omega)).mp ((er_tb B n).mpr e)).2
        refine ⟨q, by omega, fun i hi => ⟨fun z => ?_, fun z => (h2 i hi).mpr (by omega)⟩⟩
        have a1 := (h2 i hi).mp z
        have a2 : f i + n ≠ T := fun e => hx ⟨i, hi, e⟩
        omega
  obtain ⟨q, h1, _⟩ := main 64 (Nat.le_refl 64)
  omega
theorem er_mono {c : Nat} {f : Nat → Nat} (hm : ∀ i j, i < j → j < c → f i < f j) (i : Nat) : ∀ d, i + d < c → f i + d ≤ f (i + d) := by
  intro d
  induction d with
  | zero => exact fun _ => Nat.le_refl _
  | succ d ih =>
    intro h
    have a := ih (by omega)
    have b := hm (i + d) (i + (d + 1)) (by omega) h
    omega
theorem er_cT {W T B c h : Nat} {f : Nat → Nat} (P : er_P W T B c h f) : c ≤ T := by
  obtain ⟨_, _, _, _, hf, hm, _, _⟩ := P
  rcases Nat.eq_zero_or_pos c with z | z
  · omega
  · have a := er_mono hm 0 (c - 1) (by omega)
    have b := hf (0 + (c - 1)) (by omega)
    have d := hf 0 z
    omega
theorem er_lostP {W T B c h q : Nat} {f : Nat → Nat} (P : er_P W T B c h f) (hW : W < T) (hq : er_pl c f (T - W + 1) q) : q ≤ T - W ∧ T - W - q + c ≤ T := by
  obtain ⟨_, _, _, _, hf, hm, _, _⟩ := P
  obtain ⟨h1, h2, h3⟩ := hq
  have A : q ≤ T - W := by
    rcases Nat.eq_zero_or_pos q with z | z
    · omega
    · have a := er_mono hm 0 (q - 1) (by omega)
      have b := h2 (0 + (q - 1)) (by omega)
      have d := hf 0 (by omega)
      omega
  refine ⟨A, ?_⟩
  rcases Nat.lt_or_ge q c with z | z
  · have a := er_mono hm q (c - 1 - q) (by omega)
    have b := h3 q (Nat.le_refl q) z
    have d := hf (q + (c - 1 - q)) (by omega)
    omega
  · omega
/-! ===== a number put into the list ===== -/
def er_ins (f : Nat → Nat) (q s : Nat) : Nat → Nat := fun j => if j < q then f j else if j = q then s else f (j - 1)
theorem er_ins_l {f : Nat → Nat} {q s j : Nat} (h : j < q) : er_ins f q s j = f j := if_pos h
theorem er_ins_e {f : Nat → Nat} {q s : Nat} : er_ins f q s q = s := (if_neg (by omega)).trans (if_pos rfl)
theorem er_ins_g {f : Nat → Nat} {q s j : Nat} (h : q < j) : er_ins f q s j = f (j - 1) := (if_neg (by omega)).trans (if_neg (by omega))
theorem er_ins_mem {f : Nat → Nat} {c q s : Nat} (hq : q ≤ c) (Q : Nat → Prop) : (∃ j, j < c + 1 ∧ Q (er_ins f q s j)) ↔ Q s ∨ ∃ j, j < c ∧ Q (f j) := by
  constructor
  · intro ⟨j, hj, e⟩
    rcases Nat.lt_trichotomy j q with z | z | z
    · rw [er_ins_l z] at e
      exact Or.inr ⟨j, by omega, e⟩
    · subst z
      rw [er_ins_e] at e
      exact Or.inl e
    · rw [er_ins_g z] at e
      exact Or.inr ⟨j - 1, by omega, e⟩
  · intro h
    rcases h with e | ⟨j, hj, e⟩
    · exact ⟨q, by omega, by rw [er_ins_e]; exact e⟩
    · rcases Nat.lt_or_ge j q with z | z
      · exact ⟨j, by omega, by rw [er_ins_l z]; exact e⟩
      · exact ⟨j + 1, by omega, by rw [er_ins_g (by omega)]; exact e⟩
theorem er_ins_all {f : Nat → Nat} {c q s : Nat} (hq : q ≤ c) {Q : Nat → Prop} (hs : Q s) (hf : ∀ j, j < c → Q (f j)) : ∀ j, j < c + 1 → Q (er_ins f q s j) := by
  intro j hj
  rcases Nat.lt_trichotomy j q with z | z | z
  · rw [er_ins_l z]
    exact hf j (by omega)
  · subst z
    rw [er_ins_e]
    exact hs
  · rw [er_ins_g z]
    exact hf (j - 1) (by omega)
theorem er_ins_mono {f : Nat → Nat} {c q s : Nat} (hm : ∀ i j, i < j → j < c → f i < f j) (hq : er_pl c f s q) (hn : ∀ j, j < c → f j ≠ s) : ∀ i j, i < j → j < c + 1 → er_ins f q s i < er_ins f q s j := by
  intro i j hij hj
  obtain ⟨h1, h2, h3⟩ := hq
  rcases Nat.lt_trichotomy j q with z | z | z
  · rw [er_ins_l z, er_ins_l (show i < q by omega)]
    exact hm i j hij (by omega)
  · rw [z, er_ins_e, er_ins_l (show i < q by omega)]
    exact h2 i (by omega)
  · have a : s ≤ f (j - 1) := h3 (j - 1) (by omega) (by omega)
    have b := hn (j - 1) (by omega)
    rw [er_ins_g z]
    rcases Nat.lt_trichotomy i q with y | y | y
    · rw [er_ins_l y]
      have d := h2 i y
      omega
    · rw [y, er_ins_e]
      omega
    · rw [er_ins_g y]
      exact hm (i - 1) (j - 1) (by omega) (by omega)
/-- accepted at or behind the top -/
theorem er_accB {W T B c h s q : Nat} {f : Nat → Nat} (P : er_P W T B c h f) (hW : W ≤ 64) (hc : c < h) (h1 : 1 ≤ s) (h2 : s ≤ T) (h3 : T < s + W) (hb : ¬ B.testBit (T - s) = true) (hq : er_pl c f s q) : er_P W T (B ||| 2 ^ (T - s)) (c + 1) h (er_ins f q s) := by
  obtain ⟨p1, p2, p3, p4, p5, p6, p7, p8⟩ := P
  have hn : ∀ j, j < c → f j ≠ s := fun j hj e => hb ((p7 (T - s) (by omega)).mpr ⟨by omega, j, hj, by omega⟩)
  refine ⟨Nat.or_lt_two_pow p1 (Nat.pow_lt_pow_right (by decide) (by omega)), by omega, p3, by omega, er_ins_all (Q := fun y => 1 ≤ y ∧ y ≤ T) hq.1 ⟨h1, h2⟩ p5, er_ins_mono p6 hq hn, fun k hk => ?_, fun z => ?_⟩
  · rw [er_ins_mem hq.1 (fun y => y + k = T), Nat.testBit_or, Bool.or_eq_true, p7 k hk, Nat.testBit_two_pow, decide_eq_true_iff]
    constructor
    · intro z
      rcases z with ⟨z1, z2⟩ | z
      · exact ⟨z1, Or.inr z2⟩
      · exact ⟨by omega, Or.inl (by omega)⟩
    · intro ⟨z1, z2⟩
      rcases z2 with z2 | z2
      · exact Or.inr (by omega)
      · exact Or.inl ⟨z1, z2⟩
  · exact (er_ins_mem hq.1 (fun y => y = T)).mpr (Or.inr (p8 z))
/-- accepted ahead of the top -/
theorem er_accA {W T B c h s q B' : Nat} {f : Nat → Nat} (P : er_P W T B c h f) (hc : c < h) (h2 : T < s) (h3 : s ≤ T + 256) (hq : er_pl c f s q) (hB : B' < 2 ^ 64)
    (hb : ∀ k, k < 64 → (B'.testBit k = true ↔ k < W ∧ (k = 0 ∨ (s - T ≤ k ∧ B.testBit (k - (s - T)) = true)))) : er_P W s B' (c + 1) h (er_ins f q s) := by
  obtain ⟨p1, p2, p3, p4, p5, p6, p7, p8⟩ := P
  have hn : ∀ j, j < c → f j ≠ s := fun j hj e => by
    have := p5 j hj
    omega
  refine ⟨hB, by omega, p3, by omega, er_ins_all (Q := fun y => 1 ≤ y ∧ y ≤ s) hq.1 ⟨by omega, Nat.le_refl s⟩ (fun j hj => ?_), er_ins_mono p6 hq hn, fun k hk => ?_, fun _ => ?_⟩
  · have := p5 j hj
    exact ⟨this.1, by omega⟩
  · rw [hb k hk, er_ins_mem hq.1 (fun y => y + k = s)]
    constructor
    · intro ⟨z1, z2⟩
      refine ⟨z1, ?_⟩
      rcases z2 with z2 | ⟨z2, z3⟩
      · exact Or.inl (by omega)
      · obtain ⟨_, j, hj, e⟩ := (p7 _ (by omega)).mp z3
        exact Or.inr ⟨j, hj, by omega⟩
    · intro ⟨z1, z2⟩
      refine ⟨z1, ?_⟩
      rcases z2 with z2 | ⟨j, hj, e⟩
      · exact Or.inl (by omega)
      · have := p5 j hj
        exact Or.inr ⟨by omega, (p7 _ (by omega)).mpr ⟨by omega, j, hj, by omega⟩⟩
  · exact (er_ins_mem hq.1 (fun y => y = s)).mpr (Or.inl rfl)
theorem er_bitsN {W B a : Nat} (k : Nat) (hk : k < 64) : ((((B * 2 ^ a) % 2 ^ 64) ||| 1) &&& (2 ^ W - 1)).testBit k = true ↔ k < W ∧ (k = 0 ∨ (a ≤ k ∧ B.testBit (k - a) = true)) := by
  rw [Nat.testBit_and, Nat.testBit_or, Nat.testBit_mod_two_pow, Nat.testBit_mul_two_pow, Nat.testBit_two_pow_sub_one, show (1 : Nat) = 2 ^ 0 from rfl, Nat.testBit_two_pow]
  simp only [Bool.and_eq_true, Bool.or_eq_true, decide_eq_true_iff]
  constructor
  · intro ⟨z, z1⟩
    refine ⟨z1, ?_⟩
    rcases z with ⟨_, z⟩ | z
    · exact Or.inr z
    · exact Or.inl z.symm
  · intro ⟨z1, z⟩
    refine ⟨?_, z1⟩
    rcases z with z | z
    · exact Or.inr z.symm
    · exact Or.inl ⟨hk, z⟩
theorem er_bits1 {W B a : Nat} (hW : 4 ≤ W) (ha : 63 < a) (k : Nat) (hk : k < 64) : (1 : Nat).testBit k = true ↔ k < W ∧ (k = 0 ∨ (a ≤ k ∧ B.testBit (k - a) = true)) := by
  rw [show (1 : Nat) = 2 ^ 0 from rfl, Nat.testBit_two_pow, decide_eq_true_iff]
  constructor
  · intro z
    exact ⟨by omega, Or.inl z.symm⟩
  · intro ⟨_, z⟩
    rcases z with z | z
    · exact z.symm
    · omega
theorem er_P0 {W h : Nat} {f : Nat → Nat} (hh : h ≤ 60) : er_P W 0 0 0 h f := by
  refine ⟨by decide, by omega, hh, by omega, fun j hj => absurd hj (by omega), fun i j _ hj => absurd hj (by omega), fun k _ => ⟨fun z => ?_, fun z => ?_⟩, fun z => absurd z (by omega)⟩
  · rw [Nat.zero_testBit] at z
    exact absurd z (by decide)
  · obtain ⟨_, j, hj, _⟩ := z
    exact absurd hj (by omega)
theorem er_Ph {W T B c h h' : Nat} {f : Nat → Nat} (P : er_P W T B c h f) (hh : h' ≤ 60) : er_P W T B c h' f := ⟨P.1, P.2.1, hh, P.2.2.2⟩
end
section
/-! ===== the state's picture ===== -/
def er_ln (W c : Nat) (x1 x2 : Int32) (x3 : Int64) (x4 x7 : Int32) (b : Nat) (a5 : Nat → Int32) : Prop :=
  ∃ (T B h : Nat) (f : Nat → Nat), x1 = nI (T / 256) ∧ x2 = nI (T % 256) ∧ x3 = lN B ∧ x4 = nI c ∧ x7 = nI h ∧ (∀ j, j < c → a5 (b + j) = nI (f j)) ∧ er_P W T B c h f
def er_K (W : Nat) (C : Nat → Nat) (a1 a2 : Nat → Int32) (a3 : Nat → Int64) (a4 a5 a7 : Nat → Int32) : Prop :=
  ∀ l, l < 4 → er_ln W (C l) (a1 l) (a2 l) (a3 l) (a4 l) (a7 l) (60 * l) a5
def er_set (C : Nat → Nat) (l c : Nat) : Nat → Nat := fun j => if j = l then c else C j
theorem er_set_s {C : Nat → Nat} {l c : Nat} : er_set C l c l = c := if_pos rfl
theorem er_set_n {C : Nat → Nat} {l c j : Nat} (h : j ≠ l) : er_set C l c j = C j := if_neg h
theorem er_set_2 {C : Nat → Nat} {l c d : Nat} : er_set (er_set C l c) l d = er_set C l d := by
  funext j
  rcases Classical.em (j = l) with z | z
  · rw [z, er_set_s, er_set_s]
  · rw [er_set_n z, er_set_n z, er_set_n z]
theorem er_set_0 {C : Nat → Nat} {l : Nat} : er_set C l (C l + 0) = C := by
  funext j
  rcases Classical.em (j = l) with z | z
  · rw [z, er_set_s, Nat.add_zero]
  · rw [er_set_n z]
theorem er_ln_c {W c b : Nat} {x1 x2 x4 x7 : Int32} {x3 : Int64} {a5 b5 : Nat → Int32} (h : er_ln W c x1 x2 x3 x4 x7 b a5) (hb : ∀ j, j < c → b5 (b + j) = a5 (b + j)) : er_ln W c x1 x2 x3 x4 x7 b b5 := by
  obtain ⟨T, B, h', f, e1, e2, e3, e4, e7, e5, P⟩ := h
  exact ⟨T, B, h', f, e1, e2, e3, e4, e7, fun j hj => (hb j hj).trans (e5 j hj), P⟩
theorem er_ln_60 {W c b : Nat} {x1 x2 x4 x7 : Int32} {x3 : Int64} {a5 : Nat → Int32} (h : er_ln W c x1 x2 x3 x4 x7 b a5) : c ≤ 60 := by
  obtain ⟨T, B, h', f, e1, e2, e3, e4, e7, e5, P⟩ := h
  exact P.2.1
theorem er_Kup {W l c : Nat} {C : Nat → Nat} {a1 a2 a4 a5 a7 b1 b2 b4 b5 b7 : Nat → Int32} {a3 b3 : Nat → Int64} (K : er_K W C a1 a2 a3 a4 a5 a7) (hl : l < 4)
    (h1 : ∀ i, i ≠ l → b1 i = a1 i) (h2 : ∀ i, i ≠ l → b2 i = a2 i) (h3 : ∀ i, i ≠ l → b3 i = a3 i) (h4 : ∀ i, i ≠ l → b4 i = a4 i) (h7 : ∀ i, i ≠ l → b7 i = a7 i)
    (h5 : ∀ p, (p < 60 * l ∨ 60 * l + 60 ≤ p) → b5 p = a5 p) (h : er_ln W c (b1 l) (b2 l) (b3 l) (b4 l) (b7 l) (60 * l) b5) : er_K W (er_set C l c) b1 b2 b3 b4 b5 b7 := by
  intro i hi
  rcases Classical.em (i = l) with z | z
  · subst z
    rw [er_set_s]
    exact h
  · rw [er_set_n z, h1 i z, h2 i z, h3 i z, h4 i z, h7 i z]
    have hK := K i hi
    have hc := er_ln_60 hK
    exact er_ln_c hK (fun j hj => h5 _ (by omega))
/-! ===== small ones ===== -/
theorem er_256 (a b : Nat) : (256 : Int32) * nI a + nI b = nI (256 * a + b) := (congrArg (fun z => z + nI b) (pk_mul 256 a)).trans (nI_add _ _)
theorem er_60 (a b : Nat) : (60 : Int32) * nI a + nI b = nI (60 * a + b) := (congrArg (fun z => z + nI b) (pk_mul 60 a)).trans (nI_add _ _)
theorem er_6 (a b : Nat) : (6 : Int32) * nI a + nI b = nI (6 * a + b) := (congrArg (fun z => z + nI b) (pk_mul 6 a)).trans (nI_add _ _)
theorem er_isLine {post : Int32 → Prop} {l : Nat} (hl : l < 4) (h : post 1) : wpX_isLine post () (nI l) :=
  br_f (nI_pos (by omega)) (pk_lt 3 l (fun z => absurd z (by omega)) (fun _ => h))
theorem er_isLow {post : Int32 → Prop} {l : Nat} (hl : l < 256) (h : post 1) : wpX_isLow post () (nI l) :=
  br_f (nI_pos (by omega)) (pk_lt 255 l (fun z => absurd z (by omega)) (fun _ => h))
section
variable {W : Nat} {w : Int32} {m : Int64} {a1 a2 a4 a5 a6 a7 a8 : Nat → Int32} {a3 : Nat → Int64} {l T B c h : Nat} {f : Nat → Nat}
theorem er_topOf {post : Int32 → Prop} (hl : l < 4) (e1 : a1 l = nI (T / 256)) (e2 : a2 l = nI (T % 256)) (hp : post (nI T)) : wpX_topOf post (w, m, a1, a2, a3, a4, a5, a6, a7, a8) (nI l) := by
  refine ⟨pk_in l 4 hl, pk_in l 4 hl, ?_⟩
  rw [nI_clamp (show l < 2 ^ 31 by omega), e1, e2, er_256, show 256 * (T / 256) + T % 256 = T by omega]
  exact hp
theorem er_top {post : Int32 → Prop} (hl : l < 4) (e1 : a1 l = nI (T / 256)) (e2 : a2 l = nI (T % 256)) (hp : post (nI T)) : wpX_top post (w, m, a1, a2, a3, a4, a5, a6, a7, a8) (nI l) := by
  unfold wpX_top
  refine er_isLine hl (br_f (by decide) ?_)
  exact er_topOf hl e1 e2 hp
theorem er_accepted {post : Int32 → Prop} (hl : l < 4) (e4 : a4 l = nI c) (hp : post (nI c)) : wpX_accepted post (w, m, a1, a2, a3, a4, a5, a6, a7, a8) (nI l) := by
  unfold wpX_accepted
  refine er_isLine hl (br_f (by decide) ⟨pk_in l 4 hl, ?_⟩)
  rw [nI_clamp (show l < 2 ^ 31 by omega), e4]
  exact hp
theorem er_inWindow {post : Int32 → Prop} (hl : l < 4) (e3 : a3 l = lN B) (hB : B < 2 ^ 64) (hp : post (nI (er_cnt B 64))) : wpX_inWindow post (w, m, a1, a2, a3, a4, a5, a6, a7, a8) (nI l) := by
  unfold wpX_inWindow
  refine er_isLine hl (br_f (by decide) ⟨pk_in l 4 hl, ?_⟩)
  rw [nI_clamp (show l < 2 ^ 31 by omega), e3]
  exact er_ones hB hp
/-! ===== place: the binary search ===== -/
theorem er_p13 {post : Int32 → Prop} {x : Nat} (hl : l < 4) (hc : c ≤ 60) (hx : x < 2 ^ 31) (hf : ∀ j, j < c → f j < 2 ^ 31) (hm : ∀ i j, i < j → j < c → f i < f j) (e5 : ∀ j, j < c → a5 (60 * l + j) = nI (f j)) (H : ∀ q, er_pl c f x q → post (nI q)) :
    ∀ d k lo hi, k + d = 8 → lo ≤ hi → hi ≤ c → hi - lo < 2 ^ d → (∀ j, j < lo → f j < x) → (∀ j, hi ≤ j → j < c → x ≤ f j) → wX_place_13 post (nI l) (nI x) w m a1 a2 a3 a4 a5 a6 a7 a8 (d + 1) (nI lo) (nI hi) (nI k) := by
  intro d
  induction d with
  | zero =>
    intro k lo hi hk h1 h2 h3 g1 g2
    have e : hi = lo := by
      have : hi - lo < 1 := h3
      omega
    subst e
    exact pk_le 8 k (fun _ => H hi ⟨h2, g1, g2⟩) (fun z => absurd z (by omega))
  | succ d ih =>
    intro k lo hi hk h1 h2 h3 g1 g2
    have h3' : hi - lo < 2 ^ d * 2 := h3
    refine pk_le 8 k (fun z => absurd z (by omega)) (fun _ => pk_le hi lo (fun z => ?_) (fun z => ?_))
    · have e : hi = lo := by omega
      subst e
      exact H hi ⟨h2, g1, g2⟩
    · refine nm_r (e' := nI ((lo + hi) / 2)) ?_ ?_
      · rw [nI_add]
        exact pk_shrN (by omega) _ 1 (by decide)
      · have hmid : (lo + hi) / 2 < hi := by omega
        have hlo : lo ≤ (lo + hi) / 2 := by omega
        have hA : (lo + hi) / 2 - lo < 2 ^ d := by omega
        have hB : hi - ((lo + hi) / 2 + 1) < 2 ^ d := by omega
        generalize (lo + hi) / 2 = mid at *
        have e : a5 ((60 : Int32) * nI l + nI mid).toNatClampNeg = nI (f mid) := by rw [er_60, nI_clamp (by omega), e5 _ (by omega)]
        refine ⟨pk_in (60 * l + mid) 240 (by omega) (er_60 _ _), pk_le x (f mid) (fun g => ?_) (fun g => ?_) rfl e hx (hf mid (by omega))⟩
        · refine nm_r (nI_1 k) (ih (k + 1) lo mid (by omega) hlo (by omega) hA g1 (fun j j1 j2 => ?_))
          rcases Nat.lt_or_ge mid j with y | y
          · have := hm mid j y j2
            omega
          · have : j = mid := by omega
            rw [this]
            exact g
        · refine nm_r (nI_1 mid) (nm_r (nI_1 k) (ih (k + 1) (mid + 1) hi (by omega) (by omega) h2 hB (fun j j1 => ?_) g2))
          rcases Nat.lt_or_ge j mid with y | y
          · have := hm j mid y (by omega)
            omega
          · have : j = mid := by omega
            rw [this]
            exact g
theorem er_place {post : Int32 → Prop} {x : Nat} (P : er_P W T B c h f) (hl : l < 4) (hx : x < 2 ^ 31) (e4 : a4 l = nI c) (e5 : ∀ j, j < c → a5 (60 * l + j) = nI (f j)) (H : ∀ q, er_pl c f x q → post (nI q)) :
    wpX_place post (w, m, a1, a2, a3, a4, a5, a6, a7, a8) (nI l) (nI x) := by
  obtain ⟨p1, p2, p3, p4, p5, p6, p7, p8⟩ := P
  refine ⟨pk_in l 4 hl, nm_r (e' := nI c) ?_ ⟨9, ?_⟩⟩
  · rw [nI_clamp (by omega), e4]
  · exact er_p13 hl p2 hx (fun j hj => by have := p5 j hj; omega) p6 e5 H 8 0 0 c (by omega) (by omega) (by omega) (by omega) (fun j hj => absurd hj (by omega)) (fun j j1 j2 => absurd j1 (by omega))
/-! ===== lost, has, holds ===== -/
theorem er_lost {post : Int32 → Prop} (P : er_P W T B c h f) (hW : W ≤ 64) (hl : l < 4) (e1 : a1 l = nI (T / 256)) (e2 : a2 l = nI (T % 256)) (e4 : a4 l = nI c) (e5 : ∀ j, j < c → a5 (60 * l + j) = nI (f j)) (H : ∀ z, z + c ≤ T → post (nI z)) :
    wpX_lost post (nI W, m, a1, a2, a3, a4, a5, a6, a7, a8) (nI l) := by
  have hT : T ≤ 15360 := by
    have := P.2.1
    have := P.2.2.2.1
    omega
  unfold wpX_lost
  refine er_isLine hl (br_f (by decide) ?_)
  refine er_topOf hl e1 e2 ?_
  rcases Nat.lt_or_ge W T with z | z
  · refine nm_r (pk_sub (Nat.le_of_lt z)) (br_t (nI_lt (a := 0) (by omega) (by omega)) ?_)
    rw [nI_1]
    refine er_place P hl (by omega) e4 e5 (fun q hq => ?_)
    obtain ⟨q1, q2⟩ := er_lostP P z hq
    rw [pk_sub q1]
    exact H _ q2
  · refine nm_e (br_f ?_ (H 0 (by have := er_cT P; omega)))
    rw [Int32.lt_iff_toInt_lt, pk_sub_toInt (by omega) (by omega)]
    show ¬ (0 : Int) < _
    omega
theorem er_has {post : Int32 → Prop} (P : er_P W T B c h f) (hW4 : 4 ≤ W) (hW : W ≤ 64) (hl : l < 4) (hT0 : 0 < T) (e1 : a1 l = nI (T / 256)) (e2 : a2 l = nI (T % 256)) (e3 : a3 l = lN B) (H : post 1) :
    wpX_has post (nI W, m, a1, a2, a3, a4, a5, a6, a7, a8) (nI l) (nI T) := by
  have hT : T ≤ 15360 := by
    have := P.2.1
    have := P.2.2.2.1
    omega
  obtain ⟨p1, p2, p3, p4, p5, p6, p7, p8⟩ := P
  unfold wpX_has
  refine er_isLine hl (br_f (by decide) ?_)
  refine er_topOf hl e1 e2 ?_
  refine pk_lt T 1 (fun z => absurd z (by omega)) (fun _ => pk_le T T (fun _ => ?_) (fun z => absurd z (by omega)))
  have e0 : nI T - nI T = nI 0 := by rw [pk_sub (Nat.le_refl T), Nat.sub_self]
  rw [e0]
  refine pk_le W 0 (fun z => absurd z (by omega)) (fun _ => ⟨pk_in l 4 hl, ?_⟩)
  rw [nI_clamp (show l < 2 ^ 31 by omega), e3, wb_bit p1 (by decide)]
  have hb : B / 2 ^ 0 % 2 = 1 := (er_tb B 0).mp ((p7 0 (by decide)).mpr ⟨by omega, p8 hT0⟩)
  rw [hb, lN_i]
  exact H
theorem er_holds {post : Int32 → Prop} {C : Nat → Nat} {p2 : Int32} (K : er_K W C a1 a2 a3 a4 a5 a7) (hW4 : 4 ≤ W) (hW : W ≤ 64) (hl : l < 4) (hp2 : p2 = nI (C l)) (H : post 1) :
    wpL_holds post (nI W, m, a1, a2, a3, a4, a5, a6, a7, a8) (nI l) p2 := by
  obtain ⟨T, B, h, f, e1, e2, e3, e4, e7, e5, P⟩ := K l hl
  have hT : T ≤ 15360 := by
    have := P.2.1
    have := P.2.2.2.1
    omega
  have hc := P.2.1
  have hn := er_cnt_le P
  subst hp2
  have h52 : wL_holds_52 post (nI l) (nI (C l)) (nI T) (nI W) m a1 a2 a3 a4 a5 a6 a7 a8 := by
    unfold wL_holds_52
    refine er_lost P hW hl e1 e2 e4 e5 (fun z hz => ?_)
    rw [nI_add]
    exact pk_lt T (z + C l) (fun y => absurd y (by omega)) (fun _ => H)
  unfold wpL_holds
  refine er_accepted hl e4 ?_
  refine er_top hl e1 e2 ?_
  refine br_t rfl ?_
  refine er_inWindow hl e3 P.1 ?_
  refine pk_le (er_cnt B 64) (C l) (fun _ => ?_) (fun z => absurd z (by omega))
  refine br_f (nI_pos (by omega)) (pk_le T 0 (fun _ => h52) (fun z => ?_))
  exact er_has P hW4 hW hl z e1 e2 e3 (br_t rfl h52)
/-! ===== infer, isSeen ===== -/
theorem er_neg : ∀ low, low < 256 → ¬ (1 : Int32) ≤ 256 * (nI 0 - 1) + nI low := by decide +kernel
theorem er_infer {post : Int32 → Prop} {low : Nat} (hT : T ≤ 15360) (hW4 : 4 ≤ W) (hW : W ≤ 64) (hl : l < 4) (hlow : low < 256) (e1 : a1 l = nI (T / 256)) (e2 : a2 l = nI (T % 256))
    (H1 : ∀ s, 1 ≤ s → T < s + W → s + W ≤ T + 256 → post (nI s)) (H0 : ∀ r, ¬ (1 : Int32) ≤ r → post r) : wpX_infer post (nI W, m, a1, a2, a3, a4, a5, a6, a7, a8) (nI l) (nI low) := by
  have HH : ∀ s, T < s + W → s + W ≤ T + 256 → post (nI s) := fun s s1 s2 => by
    rcases Nat.eq_zero_or_pos s with z | z
    · subst z
      exact H0 _ (by decide)
    · exact H1 s z s1 s2
  have ee : (nI (T % 256) - nI W) + 1 = nI (T % 256 + 1) - nI W := by
    rw [← nI_1]
    grind
  refine ⟨pk_in l 4 hl, nm_r (e' := nI (T % 256 + 1) - nI W) ?_ ⟨pk_in l 4 hl, nm_r (e' := nI (T / 256)) ?_ ?_⟩⟩
  · rw [nI_clamp (by omega), e2, ee]
  · rw [nI_clamp (by omega), e1]
  · rcases Nat.lt_or_ge (T % 256 + 1) W with z | z
    · refine br_t (pk_sneg (by omega) z) ?_
      have e3 : (nI (T % 256 + 1) - nI W) + 256 = nI (T % 256 + 257 - W) := by
        rw [← pk_sub (show W ≤ T % 256 + 257 by omega), show T % 256 + 257 = (T % 256 + 1) + 256 by omega, ← nI_add (T % 256 + 1) 256, show nI 256 = (256 : Int32) from rfl]
        grind
      rw [e3]
      refine pk_lt low (T % 256 + 257 - W) (fun g => ?_) (fun g => nm_e ?_)
      · rw [er_256]
        exact HH _ (by omega) (by omega)
      · rcases Nat.eq_zero_or_pos (T / 256) with y | y
        · rw [y]
          exact H0 _ (er_neg low hlow)
        · obtain ⟨t, ht⟩ : ∃ t, T / 256 = t + 1 := ⟨T / 256 - 1, by omega⟩
          rw [ht, nI_pred, er_256]
          exact HH _ (by omega) (by omega)
    · rw [pk_sub z]
      refine br_f (nI_pos (by omega)) (pk_lt low (T % 256 + 1 - W) (fun g => ?_) (fun g => ?_))
      · unfold wX_infer_40
        rw [nI_1, er_256]
        exact HH _ (by omega) (by omega)
      · unfold wX_infer_40
        rw [er_256]
        exact HH _ (by omega) (by omega)
theorem er_isSeen {post : Int32 → Prop} {s : Nat} (hT : T ≤ 15360) (hB : B < 2 ^ 64) (hW : W ≤ 64) (hl : l < 4) (hs : T < s + W) (hs2 : s ≤ T + 256) (e1 : a1 l = nI (T / 256)) (e2 : a2 l = nI (T % 256)) (e3 : a3 l = lN B)
    (H1 : post 1) (H0 : (s ≤ T → ¬ B.testBit (T - s) = true) → post 0) : wpX_isSeen post (w, m, a1, a2, a3, a4, a5, a6, a7, a8) (nI l) (nI s) := by
  unfold wpX_isSeen
  refine er_topOf hl e1 e2 ?_
  rcases Nat.lt_or_ge T s with z | z
  · exact nm_e (br_t (pk_sneg (by omega) z) (H0 (fun y => absurd y (by omega))))
  · refine nm_r (pk_sub z) (br_f (nI_pos (by omega)) ⟨pk_in l 4 hl, ?_⟩)
    rw [nI_clamp (show l < 2 ^ 31 by omega), e3, wb_bit hB (by omega)]
    refine br_c (fun _ => H1) (fun y => H0 (fun _ g => y ?_))
    rw [(er_tb B (T - s)).mp g]
    rfl
end
end
section
section
variable {W : Nat} {w : Int32} {m : Int64} {a1 a2 a4 a5 a6 a7 a8 : Nat → Int32} {a3 : Nat → Int64} {l T B c h s : Nat} {f : Nat → Nat}
/-! ===== accept ===== -/
theorem er_a100 {post : St2 → Prop} {q : Nat} (hl : l < 4) (hc : c < 60) (hq : q ≤ c) (e4 : a4 l = nI c)
    (H : ∀ b5 : Nat → Int32, (∀ j, j < q → b5 (60 * l + j) = a5 (60 * l + j)) → b5 (60 * l + q) = nI s → (∀ j, q < j → j ≤ c → b5 (60 * l + j) = a5 (60 * l + (j - 1))) → (∀ p, p < 60 * l ∨ 60 * l + 60 ≤ p → b5 p = a5 p) → post (w, m, a1, a2, a3, upd a4 l (nI (c + 1)), b5, a6, a7, a8)) :
    ∀ (d : Nat) (s5 : Nat → Int32), q + d ≤ c → (∀ j, j ≤ q + d → s5 (60 * l + j) = a5 (60 * l + j)) → (∀ j, q + d < j → j ≤ c → s5 (60 * l + j) = a5 (60 * l + (j - 1))) → (∀ p, p < 60 * l ∨ 60 * l + 60 ≤ p → s5 p = a5 p) →
      wX_accept_100 post (nI l) (nI s) (nI q) w m (d + 1) (nI (q + d)) a1 a2 a3 a4 s5 a6 a7 a8 := by
  intro d
  induction d with
  | zero =>
    intro s5 hd g1 g2 g3
    refine pk_le (q + 0) q (fun _ => ?_) (fun z => absurd z (by omega))
    refine ⟨pk_in (60 * l + q) 240 (by omega) (er_60 l q), nm_r (e' := upd s5 (60 * l + q) (nI s)) ?_ ⟨pk_in l 4 hl, pk_in l 4 hl, nm_r (e' := upd a4 l (nI (c + 1))) ?_ (H _ (fun j hj => ?_) pk_us (fun j j1 j2 => ?_) (fun p hp => ?_))⟩⟩
    · rw [er_60, nI_clamp (by omega)]
    · rw [nI_clamp (by omega), e4, nI_1]
    · rw [pk_un (show 60 * l + j ≠ 60 * l + q by omega)]
      exact g1 j (by omega)
    · rw [pk_un (show 60 * l + j ≠ 60 * l + q by omega)]
      exact g2 j (by omega) j2
    · rw [pk_un (show p ≠ 60 * l + q by omega)]
      exact g3 p hp
  | succ d ih =>
    intro s5 hd g1 g2 g3
    have e0 : (60 : Int32) * nI l + nI (q + (d + 1)) = nI (60 * l + (q + d) + 1) := er_60 l (q + (d + 1))
    have e1 : (60 : Int32) * nI l + nI (q + (d + 1)) - 1 = nI (60 * l + (q + d)) := by rw [e0, nI_pred]
    refine pk_le (q + (d + 1)) q (fun z => absurd z (by omega)) (fun _ => ?_)
    refine ⟨pk_in (60 * l + (q + d)) 240 (by omega) e1, pk_in (60 * l + (q + d) + 1) 240 (by omega) e0, nm_r (e' := upd s5 (60 * l + (q + d) + 1) (s5 (60 * l + (q + d)))) ?_ (nm_r (pk_m1 (q + d)) (ih _ (by omega) (fun j hj => ?_) (fun j j1 j2 => ?_) (fun p hp => ?_)))⟩
    · rw [e1, e0, nI_clamp (by omega), nI_clamp (by omega)]
    · rw [pk_un (show 60 * l + j ≠ 60 * l + (q + d) + 1 by omega)]
      exact g1 j (by omega)
    · rcases Nat.lt_or_ge (q + d + 1) j with z | z
      · rw [pk_un (show 60 * l + j ≠ 60 * l + (q + d) + 1 by omega)]
        exact g2 j (by omega) j2
      · have ej : j = q + d + 1 := by omega
        subst ej
        rw [show 60 * l + (q + d + 1) = 60 * l + (q + d) + 1 by omega, pk_us, show q + d + 1 - 1 = q + d by omega]
        exact g1 (q + d) (by omega)
    · rw [pk_un (show p ≠ 60 * l + (q + d) + 1 by omega)]
      exact g3 p hp
theorem er_a84 {post : St2 → Prop} (P : er_P W T B c h f) (hl : l < 4) (hc : c < 60) (hs : s < 2 ^ 31) (e4 : a4 l = nI c) (e5 : ∀ j, j < c → a5 (60 * l + j) = nI (f j))
    (H : ∀ (q : Nat) (b5 : Nat → Int32), er_pl c f s q → (∀ j, j < c + 1 → b5 (60 * l + j) = nI (er_ins f q s j)) → (∀ p, p < 60 * l ∨ 60 * l + 60 ≤ p → b5 p = a5 p) → post (w, m, a1, a2, a3, upd a4 l (nI (c + 1)), b5, a6, a7, a8)) :
    wX_accept_84 post (nI l) (nI s) w m a1 a2 a3 a4 a5 a6 a7 a8 := by
  unfold wX_accept_84
  refine er_place P hl hs e4 e5 (fun q hq => ⟨pk_in l 4 hl, nm_r (e' := nI c) ?_ ⟨c - q + 1, ?_⟩⟩)
  · rw [nI_clamp (by omega), e4]
  · have t := er_a100 (post := post) (w := w) (m := m) (a1 := a1) (a2 := a2) (a3 := a3) (a4 := a4) (a5 := a5) (a6 := a6) (a7 := a7) (a8 := a8) (s := s) hl hc hq.1 e4 (fun b5 k1 k2 k3 k4 => H q b5 hq (fun j hj => ?_) k4) (c - q) a5 (by have := hq.1; omega) (fun _ _ => rfl) (fun j j1 j2 => absurd j1 (by have := hq.1; omega)) (fun _ _ => rfl)
    · rw [show q + (c - q) = c by have := hq.1; omega] at t
      exact t
    · rcases Nat.lt_trichotomy j q with z | z | z
      · rw [er_ins_l z, k1 j z]
        exact e5 j (by have := hq.1; omega)
      · subst z
        rw [er_ins_e]
        exact k2
      · rw [er_ins_g z, k3 j z (by omega)]
        exact e5 (j - 1) (by omega)
theorem er_a42 {post : St2 → Prop} {z0 : Int64} (P : er_P W T B c h f) (hl : l < 4) (hc : c < 60) (hs : s < 2 ^ 31) (e4 : a4 l = nI c) (e5 : ∀ j, j < c → a5 (60 * l + j) = nI (f j))
    (H : ∀ (q : Nat) (b5 : Nat → Int32), er_pl c f s q → (∀ j, j < c + 1 → b5 (60 * l + j) = nI (er_ins f q s j)) → (∀ p, p < 60 * l ∨ 60 * l + 60 ≤ p → b5 p = a5 p) → post (w, m, upd a1 l (nI (s / 256)), upd a2 l (nI (s % 256)), vp_updL a3 l z0, upd a4 l (nI (c + 1)), b5, a6, a7, a8)) :
    wX_accept_42 post (nI l) (nI s) z0 (nI l) w m a1 a2 a3 a4 a5 a6 a7 a8 := by
  refine ⟨pk_in l 4 hl, nm_r (e' := vp_updL a3 l z0) ?_ ⟨pk_in l 4 hl, nm_r (e' := upd a1 l (nI (s / 256))) ?_ ⟨pk_in l 4 hl, nm_r (e' := upd a2 l (nI (s % 256))) ?_ (er_a84 P hl hc hs e4 e5 H)⟩⟩⟩
  · rw [nI_clamp (by omega)]
  · rw [nI_clamp (by omega), pk_shrN hs _ 8 (by decide)]
  · rw [nI_clamp (by omega), pk_andN (by omega) 8 (by decide)]
theorem er_accept {post : St2 → Prop} {C : Nat → Nat} (K : er_K W C a1 a2 a3 a4 a5 a7) (hW4 : 4 ≤ W) (hW : W ≤ 64) (hl : l < 4) (e1 : a1 l = nI (T / 256)) (e2 : a2 l = nI (T % 256)) (e3 : a3 l = lN B) (e4 : a4 l = nI (C l)) (e7 : a7 l = nI h)
    (e5 : ∀ j, j < C l → a5 (60 * l + j) = nI (f j)) (P : er_P W T B (C l) h f) (hc : C l < h) (s1 : 1 ≤ s) (s2 : T < s + W) (s3 : s + W ≤ T + 256) (hb : s ≤ T → ¬ B.testBit (T - s) = true)
    (H : ∀ (b1 b2 : Nat → Int32) (b3 : Nat → Int64) (b4 b5 : Nat → Int32), er_K W (er_set C l (C l + 1)) b1 b2 b3 b4 b5 a7 → post (nI W, lN (2 ^ W - 1), b1, b2, b3, b4, b5, a6, a7, a8)) :
    wpX_accept post (nI W, lN (2 ^ W - 1), a1, a2, a3, a4, a5, a6, a7, a8) (nI l) (nI s) := by
  have hT : T ≤ 15360 := by
    have := P.2.1
    have := P.2.2.2.1
    omega
  have h60 : C l < 60 := by
    have := P.2.2.1
    omega
  unfold wpX_accept
  refine er_topOf hl e1 e2 ?_
  rcases Nat.lt_or_ge T s with z | z
  · refine nm_r (pk_sub (Nat.le_of_lt z)) (pk_le (s - T) 0 (fun y => absurd y (by omega)) (fun _ => pk_le (s - T) 63 (fun y => ⟨pk_in l 4 hl, ?_⟩) (fun y => ?_)))
    · have eb : ((a3 (nI l).toNatClampNeg <<< ((nI (s - T)).toInt64 &&& 63)) ||| 1) &&& lN (2 ^ W - 1) = lN ((((B * 2 ^ (s - T)) % 2 ^ 64) ||| 1) &&& (2 ^ W - 1)) := by
        have hw : 2 ^ W ≤ 2 ^ 64 := Nat.pow_le_pow_right (by decide) hW
        have hm1 : B * 2 ^ (s - T) % 2 ^ 64 < 2 ^ 64 := Nat.mod_lt _ (by decide)
        rw [nI_clamp (by omega), e3, wb_shl B (by omega), wb_mod, show (1 : Int64) = lN 1 from rfl, wb_or hm1 (by decide), wb_and (Nat.or_lt_two_pow hm1 (by decide)) (by omega)]
      rw [eb]
      refine er_a42 P hl h60 (by omega) e4 e5 (fun q b5 hq k1 k2 => H _ _ _ _ _ ?_)
      refine er_Kup K hl (fun i y => pk_un y) (fun i y => pk_un y) (fun i y => pk_uLn y) (fun i y => pk_un y) (fun _ _ => rfl) k2 ?_
      refine ⟨s, _, h, er_ins f q s, pk_us, pk_us, pk_uLs, pk_us, e7, k1, er_accA P hc z (by omega) hq ?_ (fun k hk => er_bitsN k hk)⟩
      have hw : 2 ^ W ≤ 2 ^ 64 := Nat.pow_le_pow_right (by decide) hW
      have hw0 : 0 < 2 ^ W := Nat.two_pow_pos W
      exact Nat.and_lt_two_pow _ (by omega)
    · refine er_a42 P hl h60 (by omega) e4 e5 (fun q b5 hq k1 k2 => H _ _ _ _ _ ?_)
      refine er_Kup K hl (fun i y => pk_un y) (fun i y => pk_un y) (fun i y => pk_uLn y) (fun i y => pk_un y) (fun _ _ => rfl) k2 ?_
      exact ⟨s, 1, h, er_ins f q s, pk_us, pk_us, pk_uLs, pk_us, e7, k1, er_accA P hc z (by omega) hq (by decide) (fun k hk => er_bits1 hW4 y k hk)⟩
  · have hle : nI s - nI T ≤ 0 := by
      rw [Int32.le_iff_toInt_le, pk_sub_toInt (by omega) (by omega)]
      show _ ≤ (0 : Int)
      omega
    have hneg : -(nI s - nI T) = nI (T - s) := by
      rw [← pk_sub z]
      grind
    refine nm_e (br_t hle ⟨pk_in l 4 hl, pk_in l 4 hl, nm_r (e' := vp_updL a3 l (lN (B ||| 2 ^ (T - s)))) ?_ ?_⟩)
    · rw [nI_clamp (by omega), e3, hneg, show (1 : Int64) = lN 1 from rfl, wb_shl 1 (by omega), Nat.one_mul, wb_or P.1 (Nat.pow_lt_pow_right (by decide) (by omega))]
    · refine er_a84 P hl h60 (by omega) e4 e5 (fun q b5 hq k1 k2 => H _ _ _ _ _ ?_)
      refine er_Kup K hl (fun _ _ => rfl) (fun _ _ => rfl) (fun i y => pk_uLn y) (fun i y => pk_un y) (fun _ _ => rfl) k2 ?_
      exact ⟨T, _, h, er_ins f q s, e1, e2, pk_uLs, pk_us, e7, k1, er_accB P hW hc s1 z s2 (hb z) hq⟩
/-! ===== judge, receive, burst ===== -/
theorem er_j77 {post : Int32 → St2 → Prop} {v : Nat} (hl : l < 4) (hv : v ≤ 5) (H : ∀ b8, post (nI v) (w, m, a1, a2, a3, a4, a5, a6, a7, b8)) : wX_judge_77 post (nI l) (nI v) w m a1 a2 a3 a4 a5 a6 a7 a8 :=
  ⟨pk_in (6 * l + v) 24 (by omega) (er_6 l v), pk_in (6 * l + v) 24 (by omega) (er_6 l v), nm_e (H _)⟩
theorem er_judge {post : Int32 → St2 → Prop} {C : Nat → Nat} {low : Nat} {p2 : Int32} (K : er_K W C a1 a2 a3 a4 a5 a7) (hW4 : 4 ≤ W) (hW : W ≤ 64) (hl : l < 4) (hlow : low < 256)
    (H1 : ∀ (b1 b2 : Nat → Int32) (b3 : Nat → Int64) (b4 b5 b8 : Nat → Int32), er_K W (er_set C l (C l + 1)) b1 b2 b3 b4 b5 a7 → post (nI 1) (nI W, lN (2 ^ W - 1), b1, b2, b3, b4, b5, a6, a7, b8))
    (H0 : ∀ (v : Nat) (b8 : Nat → Int32), 2 ≤ v → v ≤ 5 → post (nI v) (nI W, lN (2 ^ W - 1), a1, a2, a3, a4, a5, a6, a7, b8)) :
    wpX_judge post (nI W, lN (2 ^ W - 1), a1, a2, a3, a4, a5, a6, a7, a8) (nI l) (nI low) p2 := by
  obtain ⟨T, B, h, f, e1, e2, e3, e4, e7, e5, P⟩ := K l hl
  have hT : T ≤ 15360 := by
    have := P.2.1
    have := P.2.2.2.1
    omega
  have hC := P.2.1
  have hh := P.2.2.1
  have g4 : a4 (nI l).toNatClampNeg = nI (C l) := by rw [nI_clamp (by omega), e4]
  have g7 : a7 (nI l).toNatClampNeg = nI h := by rw [nI_clamp (by omega), e7]
  have J : ∀ v, 2 ≤ v → v ≤ 5 → wX_judge_77 post (nI l) (nI v) (nI W) (lN (2 ^ W - 1)) a1 a2 a3 a4 a5 a6 a7 a8 := fun v v1 v2 => er_j77 hl v2 (fun b8 => H0 v b8 v1 v2)
  unfold wpX_judge
  refine er_infer hT hW4 hW hl hlow e1 e2 (fun s s1 s2 s3 => ?_) (fun r hr => ?_)
  · refine ⟨pk_in l 4 hl, pk_in l 4 hl, pk_lt (C l) h (fun z => ?_) (fun _ => J 5 (by decide) (by decide)) g4 g7 (by omega) (by omega)⟩
    refine pk_le 1 s (fun _ => ?_) (fun z => absurd z (by omega))
    refine er_isSeen hT P.1 hW hl s2 (by omega) e1 e2 e3 (br_f (by decide) (J 2 (by decide) (by decide))) (fun hb => br_t rfl (br_c (fun _ => J 4 (by decide) (by decide)) (fun _ => ?_)))
    refine er_accept K hW4 hW hl e1 e2 e3 e4 e7 e5 P z s1 s2 s3 hb (fun b1 b2 b3 b4 b5 K' => ?_)
    exact er_j77 (v := 1) hl (by decide) (fun b8 => H1 b1 b2 b3 b4 b5 b8 K')
  · refine ⟨pk_in l 4 hl, pk_in l 4 hl, pk_lt (C l) h (fun z => br_f hr (J 3 (by decide) (by decide))) (fun _ => J 5 (by decide) (by decide)) g4 g7 (by omega) (by omega)⟩
theorem er_receive {post : Int32 → St2 → Prop} {C : Nat → Nat} {low : Nat} {p2 : Int32} (K : er_K W C a1 a2 a3 a4 a5 a7) (hW4 : 4 ≤ W) (hW : W ≤ 64) (hl : l < 4) (hlow : low < 256)
    (H1 : ∀ (b1 b2 : Nat → Int32) (b3 : Nat → Int64) (b4 b5 b8 : Nat → Int32), er_K W (er_set C l (C l + 1)) b1 b2 b3 b4 b5 a7 → post (nI 1) (nI W, lN (2 ^ W - 1), b1, b2, b3, b4, b5, a6, a7, b8))
    (H0 : ∀ (v : Nat) (b8 : Nat → Int32), 2 ≤ v → v ≤ 5 → post (nI v) (nI W, lN (2 ^ W - 1), a1, a2, a3, a4, a5, a6, a7, b8)) :
    wpX_receive post (nI W, lN (2 ^ W - 1), a1, a2, a3, a4, a5, a6, a7, a8) (nI l) (nI low) p2 := by
  have R : ∀ z0, wX_receive_31 post z0 (nI low) (nI l) (nI W) (lN (2 ^ W - 1)) a1 a2 a3 a4 a5 a6 a7 a8 := fun z0 => by
    unfold wX_receive_31
    exact er_judge K hW4 hW hl hlow H1 H0
  unfold wpX_receive
  refine er_isLine hl (br_f (by decide) ?_)
  refine er_isLow hlow (br_f (by decide) ?_)
  exact br_c (fun _ => R 0) (fun _ => R 1)
end
section
variable {W : Nat} {a1 a2 a4 a5 a6 a7 a8 : Nat → Int32} {a3 : Nat → Int64} {l : Nat} {C : Nat → Nat}
theorem er_b56 {post : Int32 → St2 → Prop} {x2 x3 : Int32} {n0 : Nat} (hn : n0 ≤ 40) (hW4 : 4 ≤ W) (hW : W ≤ 64) (hl : l < 4)
    (H : ∀ (g : Nat) (b1 b2 : Nat → Int32) (b3 : Nat → Int64) (b4 b5 b6 b7 b8 : Nat → Int32), er_K W (er_set C l (C l + g)) b1 b2 b3 b4 b5 b7 → post (nI g) (nI W, lN (2 ^ W - 1), b1, b2, b3, b4, b5, b6, b7, b8)) :
    ∀ (d g k : Nat) (b1 b2 : Nat → Int32) (b3 : Nat → Int64) (b4 b5 b6 b7 b8 : Nat → Int32), k + d = n0 → er_K W (er_set C l (C l + g)) b1 b2 b3 b4 b5 b7 →
      wX_burst_56 post (nI l) x2 x3 (nI n0) (d + 1) (nI g) (nI k) (nI W) (lN (2 ^ W - 1)) b1 b2 b3 b4 b5 b6 b7 b8 := by
  intro d
  induction d with
  | zero =>
    intro g k b1 b2 b3 b4 b5 b6 b7 b8 hk K
    exact pk_le n0 k (fun _ => H g b1 b2 b3 b4 b5 b6 b7 b8 K) (fun z => absurd z (by omega))
  | succ d ih =>
    intro g k b1 b2 b3 b4 b5 b6 b7 b8 hk K
    refine pk_le n0 k (fun z => absurd z (by omega)) (fun _ => ?_)
    obtain ⟨j, hj, ej⟩ := pk_andE (x2 + nI k * x3) (m := 255) 8 (by decide)
    rw [ej]
    refine er_judge K hW4 hW hl hj (fun c1 c2 c3 c4 c5 c8 K' => ?_) (fun v c8 v1 v2 => ?_)
    · rw [er_set_s, er_set_2, Nat.add_assoc] at K'
      exact br_t rfl (nm_r (nI_1 g) (nm_r (nI_1 k) (ih (g + 1) (k + 1) c1 c2 c3 c4 c5 b6 b7 c8 (by omega) K')))
    · exact pk_eq v 1 (fun z => absurd z (by omega)) (fun _ => nm_r (nI_1 k) (ih g (k + 1) b1 b2 b3 b4 b5 b6 b7 c8 (by omega) K))
theorem er_burst {post : Int32 → St2 → Prop} {low n0 : Nat} {p2 : Int32} (K : er_K W C a1 a2 a3 a4 a5 a7) (hn1 : 1 ≤ n0) (hn : n0 ≤ 40) (hW4 : 4 ≤ W) (hW : W ≤ 64) (hl : l < 4) (hlow : low < 256) (hp : ¬ p2 < (-64)) (hp' : p2 ≤ 64)
    (H : ∀ (g : Nat) (b1 b2 : Nat → Int32) (b3 : Nat → Int64) (b4 b5 b6 b7 b8 : Nat → Int32), er_K W (er_set C l (C l + g)) b1 b2 b3 b4 b5 b7 → post (nI g) (nI W, lN (2 ^ W - 1), b1, b2, b3, b4, b5, b6, b7, b8)) :
    wpX_burst post (nI W, lN (2 ^ W - 1), a1, a2, a3, a4, a5, a6, a7, a8) (nI l) (nI low) p2 (nI n0) := by
  unfold wpX_burst
  refine er_isLine hl (br_f (by decide) ?_)
  refine er_isLow hlow (br_f (by decide) (br_f hp (br_t hp' ?_)))
  refine pk_lt n0 1 (fun z => absurd z (by omega)) (fun _ => pk_le n0 40 (fun _ => ⟨n0 + 1, ?_⟩) (fun z => absurd z (by omega)))
  exact er_b56 hn hW4 hW hl H n0 0 0 a1 a2 a3 a4 a5 a6 a7 a8 (by omega) (by rw [er_set_0]; exact K)
theorem er_rekey {post : Int32 → St2 → Prop} {w : Int32} {m : Int64} (K : er_K W C a1 a2 a3 a4 a5 a7) (hl : l < 4)
    (H : ∀ (b1 b2 : Nat → Int32) (b3 : Nat → Int64) (b4 : Nat → Int32), er_K W (er_set C l 0) b1 b2 b3 b4 a5 a7 → post (nI (C l)) (w, m, b1, b2, b3, b4, a5, a6, a7, a8)) :
    wpX_rekey post (w, m, a1, a2, a3, a4, a5, a6, a7, a8) (nI l) := by
  obtain ⟨T, B, h, f, e1, e2, e3, e4, e7, e5, P⟩ := K l hl
  unfold wpX_rekey
  refine er_isLine hl (br_f (by decide) ?_)
  rw [nI_clamp (show l < 2 ^ 31 by omega)]
  refine ⟨pk_in l 4 hl, nm_r e4 ⟨pk_in l 4 hl, nm_e ⟨pk_in l 4 hl, nm_e ⟨pk_in l 4 hl, nm_e ⟨pk_in l 4 hl, nm_e (H _ _ _ _ ?_)⟩⟩⟩⟩⟩
  refine er_Kup K hl (fun i y => pk_un y) (fun i y => pk_un y) (fun i y => pk_uLn y) (fun i y => pk_un y) (fun _ _ => rfl) (fun _ _ => rfl) ?_
  exact ⟨0, 0, h, f, pk_us, pk_us, pk_uLs, pk_us, e7, fun j hj => absurd hj (by omega), er_P0 P.2.2.1⟩
theorem er_limits {post : Int32 → St2 → Prop} {w : Int32} {m : Int64} {p1 p2 : Int32} (K : er_K W C a1 a2 a3 a4 a5 a7) (hl : l < 4)
    (H : ∀ (r : Int32) (b6 b7 : Nat → Int32), er_K W C a1 a2 a3 a4 a5 b7 → post r (w, m, a1, a2, a3, a4, a5, b6, b7, a8)) :
    wpX_limits post (w, m, a1, a2, a3, a4, a5, a6, a7, a8) (nI l) p1 p2 := by
  obtain ⟨T, B, h, f, e1, e2, e3, e4, e7, e5, P⟩ := K l hl
  unfold wpX_limits
  refine er_isLine hl (br_f (by decide) ?_)
  refine br_c (fun _ => H _ _ _ K) (fun z1 => br_c (fun z2 => br_c (fun _ => H _ _ _ K) (fun _ => br_c (fun _ => ?_) (fun _ => H _ _ _ K))) (fun _ => H _ _ _ K))
  have z0 : ¬ p2 < 0 := fun z => z1 (by
    rw [Int32.lt_iff_toInt_lt] at z ⊢
    have t0 : (0 : Int32).toInt = 0 := by decide
    have t1 : (1 : Int32).toInt = 1 := by decide
    omega)
  obtain ⟨h', hh, eh⟩ := nI_of2 (n := 60) (by decide) z0 z2
  subst eh
  rw [nI_clamp (show l < 2 ^ 31 by omega)]
  have K' : er_K W C a1 a2 a3 a4 a5 (upd a7 l (nI h')) := by
    have t := er_Kup (c := C l + 0) (b7 := upd a7 l (nI h')) K hl (fun _ _ => rfl) (fun _ _ => rfl) (fun _ _ => rfl) (fun _ _ => rfl) (fun i y => pk_un y) (fun _ _ => rfl) ⟨T, B, h', f, e1, e2, e3, e4, pk_us, e5, er_Ph P hh⟩
    rw [er_set_0] at t
    exact t
  exact ⟨pk_in l 4 hl, nm_e ⟨pk_in l 4 hl, nm_e ⟨pk_in l 4 hl, br_c (fun _ => H _ _ _ K') (fun _ => H _ _ _ K')⟩⟩⟩
end
end
section
/-! ===== the packed counts: a byte a line ===== -/
def er_G (C : Nat → Nat) : Nat := C 0 + 256 * C 1 + 65536 * C 2 + 16777216 * C 3
theorem er_G_lt {C : Nat → Nat} (hC : ∀ l, l < 4 → C l ≤ 60) : er_G C < 2 ^ 31 := by
  have h0 := hC 0 (by decide)
  have h1 := hC 1 (by decide)
  have h2 := hC 2 (by decide)
  have h3 := hC 3 (by decide)
  unfold er_G
  omega
theorem er_4 {P : Nat → Prop} (h0 : P 0) (h1 : P 1) (h2 : P 2) (h3 : P 3) (l : Nat) (hl : l < 4) : P l := co_4 h0 h1 h2 h3 hl
theorem er_Gget {C : Nat → Nat} (hC : ∀ l, l < 4 → C l ≤ 60) : ∀ l, l < 4 → (nI (er_G C) >>> ((8 * nI l) &&& 31)) &&& 255 = nI (C l) := by
  have h := er_G_lt hC
  have h0 := hC 0 (by decide)
  have h1 := hC 1 (by decide)
  have h2 := hC 2 (by decide)
  have h3 := hC 3 (by decide)
  have e : er_G C = C 0 + 256 * C 1 + 65536 * C 2 + 16777216 * C 3 := rfl
  refine er_4 ?_ ?_ ?_ ?_
  · rw [pk_shrN h _ 0 (by decide), pk_andN (by omega) 8 (by decide)]
    exact congrArg nI (by omega)
  · rw [pk_shrN h _ 8 (by decide), pk_andN (by omega) 8 (by decide)]
    exact congrArg nI (by omega)
  · rw [pk_shrN h _ 16 (by decide), pk_andN (by omega) 8 (by decide)]
    exact congrArg nI (by omega)
  · rw [pk_shrN h _ 24 (by decide), pk_andN (by omega) 8 (by decide)]
    exact congrArg nI (by omega)
theorem er_Gadd {C : Nat → Nat} {g : Nat} (hg : g ≤ 60) : ∀ l, l < 4 → nI (er_G C) + (nI g <<< ((8 * nI l) &&& 31)) = nI (er_G (er_set C l (C l + g))) := by
  refine er_4 ?_ ?_ ?_ ?_
  · rw [pk_shlN _ 0 (by decide) (by omega), nI_add]
    exact congrArg nI (show er_G C + g * 2 ^ 0 = (C 0 + g) + 256 * C 1 + 65536 * C 2 + 16777216 * C 3 by unfold er_G; omega)
  · rw [pk_shlN _ 8 (by decide) (by omega), nI_add]
    exact congrArg nI (show er_G C + g * 2 ^ 8 = C 0 + 256 * (C 1 + g) + 65536 * C 2 + 16777216 * C 3 by unfold er_G; omega)
  · rw [pk_shlN _ 16 (by decide) (by omega), nI_add]
    exact congrArg nI (show er_G C + g * 2 ^ 16 = C 0 + 256 * C 1 + 65536 * (C 2 + g) + 16777216 * C 3 by unfold er_G; omega)
  · rw [pk_shlN _ 24 (by decide) (by omega), nI_add]
    exact congrArg nI (show er_G C + g * 2 ^ 24 = C 0 + 256 * C 1 + 65536 * C 2 + 16777216 * (C 3 + g) by unfold er_G; omega)
theorem er_a255 {x : Nat} (h : x ≤ 60) : x &&& 255 = x := (Nat.and_two_pow_sub_one_eq_mod x 8).trans (Nat.mod_eq_of_lt (by omega))
theorem er_Gand (c0 c1 c2 c3 d0 d1 d2 d3 : Nat) (h0 : c0 ≤ 60) (h1 : c1 ≤ 60) (h2 : c2 ≤ 60) (g0 : d0 < 256) (g1 : d1 < 256) (g2 : d2 < 256) :
    (c0 + 256 * c1 + 65536 * c2 + 16777216 * c3) &&& (d0 + 256 * d1 + 65536 * d2 + 16777216 * d3) = (c0 &&& d0) + 256 * (c1 &&& d1) + 65536 * (c2 &&& d2) + 16777216 * (c3 &&& d3) := by
  rw [show c0 + 256 * c1 + 65536 * c2 + 16777216 * c3 = c0 + 256 * (c1 + 256 * (c2 + 256 * c3)) by omega, show d0 + 256 * d1 + 65536 * d2 + 16777216 * d3 = d0 + 256 * (d1 + 256 * (d2 + 256 * d3)) by omega]
  rw [er_sand (by omega) g0, er_sand (by omega) g1, er_sand (by omega) g2]
  omega
theorem er_Gclr {C : Nat → Nat} (hC : ∀ l, l < 4 → C l ≤ 60) : ∀ l, l < 4 → nI (er_G C) &&& (((255 : Int32) <<< ((8 * nI l) &&& 31)) ^^^ (-1)) = nI (er_G (er_set C l 0)) := by
  have h0 := hC 0 (by decide)
  have h1 := hC 1 (by decide)
  have h2 := hC 2 (by decide)
  have h3 := hC 3 (by decide)
  refine er_4 ?_ ?_ ?_ ?_
  · rw [show ((255 : Int32) <<< ((8 * nI 0) &&& 31)) ^^^ (-1) = nI (0 + 256 * 255 + 65536 * 255 + 16777216 * 255) by decide, nx_and]
    unfold er_G
    rw [er_Gand _ _ _ _ _ _ _ _ h0 h1 h2 (by decide) (by decide) (by decide), er_a255 h1, er_a255 h2, er_a255 h3, Nat.and_zero]
    rfl
  · rw [show ((255 : Int32) <<< ((8 * nI 1) &&& 31)) ^^^ (-1) = nI (255 + 256 * 0 + 65536 * 255 + 16777216 * 255) by decide, nx_and]
    unfold er_G
    rw [er_Gand _ _ _ _ _ _ _ _ h0 h1 h2 (by decide) (by decide) (by decide), er_a255 h0, er_a255 h2, er_a255 h3, Nat.and_zero]
    rfl
  · rw [show ((255 : Int32) <<< ((8 * nI 2) &&& 31)) ^^^ (-1) = nI (255 + 256 * 255 + 65536 * 0 + 16777216 * 255) by decide, nx_and]
    unfold er_G
    rw [er_Gand _ _ _ _ _ _ _ _ h0 h1 h2 (by decide) (by decide) (by decide), er_a255 h0, er_a255 h1, er_a255 h3, Nat.and_zero]
    rfl
  · rw [show ((255 : Int32) <<< ((8 * nI 3) &&& 31)) ^^^ (-1) = nI (255 + 256 * 255 + 65536 * 255 + 16777216 * 0) by decide, nx_and]
    unfold er_G
    rw [er_Gand _ _ _ _ _ _ _ _ h0 h1 h2 (by decide) (by decide) (by decide), er_a255 h0, er_a255 h1, er_a255 h2, Nat.and_zero]
    rfl
theorem er_KC {W : Nat} {C : Nat → Nat} {a1 a2 a4 a5 a7 : Nat → Int32} {a3 : Nat → Int64} (K : er_K W C a1 a2 a3 a4 a5 a7) : ∀ l, l < 4 → C l ≤ 60 := fun l hl => er_ln_60 (K l hl)
/-! ===== the law's turn ===== -/
section
variable {post : Int32 → Prop} {L : Nat} {xs : Nat → Int32} {J : Int32 → Int32 → Int32 → Int64 → (Nat → Int32) → (Nat → Int32) → (Nat → Int64) → (Nat → Int32) → (Nat → Int32) → (Nat → Int32) → (Nat → Int32) → (Nat → Int32) → Prop} {x4 : Int32} {kc ks W l : Nat} {C : Nat → Nat} {a1 a2 a4 a5 a6 a7 a8 : Nat → Int32} {a3 : Nat → Int64}
theorem er_296 (K : er_K W C a1 a2 a3 a4 a5 a7) (hW4 : 4 ≤ W) (hW : W ≤ 64) (HJ : J (nI (er_G C)) (x4 + 2) (nI W) (lN (2 ^ W - 1)) a1 a2 a3 a4 a5 a6 a7 a8) :
    ∀ d i, i + d = 4 → wL_law_296 post L xs J (nI (er_G C)) x4 kc ks (nI W) (lN (2 ^ W - 1)) a1 a2 a3 a4 a5 a6 a7 a8 (d + 1) (nI i) := by
  intro d
  induction d with
  | zero =>
    intro i hi
    exact pk_le 4 i (fun _ => nm_e HJ) (fun z => absurd z (by omega))
  | succ d ih =>
    intro i hi
    refine pk_le 4 i (fun z => absurd z (by omega)) (fun _ => ?_)
    exact er_holds K hW4 hW (by omega) (er_Gget (er_KC K) i (by omega)) (br_f (by decide) (nm_r (nI_1 i) (ih (i + 1) (by omega))))
theorem er_282 {x3 x10 : Int32} (K : er_K W C a1 a2 a3 a4 a5 a7) (hW4 : 4 ≤ W) (hW : W ≤ 64) (he : x3 + (x10 <<< ((8 * nI l) &&& 31)) = nI (er_G C)) (HJ : J (nI (er_G C)) (x4 + 2) (nI W) (lN (2 ^ W - 1)) a1 a2 a3 a4 a5 a6 a7 a8) :
    wL_law_282 post L xs J x3 x4 (nI l) x10 kc ks (nI W) (lN (2 ^ W - 1)) a1 a2 a3 a4 a5 a6 a7 a8 :=
  nm_r he ⟨5, er_296 K hW4 hW HJ 4 0 (by omega)⟩
theorem er_282' (K : er_K W C a1 a2 a3 a4 a5 a7) (hW4 : 4 ≤ W) (hW : W ≤ 64) (hl : l < 4) (HJ : J (nI (er_G C)) (x4 + 2) (nI W) (lN (2 ^ W - 1)) a1 a2 a3 a4 a5 a6 a7 a8) :
    wL_law_282 post L xs J (nI (er_G C)) x4 (nI l) 0 kc ks (nI W) (lN (2 ^ W - 1)) a1 a2 a3 a4 a5 a6 a7 a8 := by
  refine er_282 K hW4 hW ?_ HJ
  have t := er_Gadd (C := C) (g := 0) (by omega) l hl
  rw [er_set_0] at t
  exact t
theorem er_step : ∀ t, t < 8 → ¬ (nI t - 2 < (-64)) ∧ nI t - 2 ≤ 64 := by decide +kernel
theorem er_99 {x6 x7 : Int32} {low : Nat} (K : er_K W C a1 a2 a3 a4 a5 a7) (hW4 : 4 ≤ W) (hW : W ≤ 64) (hl : l < 4) (hlow : low < 256)
    (HJ : ∀ (C' : Nat → Nat) (b1 b2 : Nat → Int32) (b3 : Nat → Int64) (b4 b5 b6 b7 b8 : Nat → Int32), er_K W C' b1 b2 b3 b4 b5 b7 → J (nI (er_G C')) (x4 + 2) (nI W) (lN (2 ^ W - 1)) b1 b2 b3 b4 b5 b6 b7 b8) :
    wL_law_99 post L xs J (nI (er_G C)) x4 x6 x7 (nI l) (nI low) kc ks (nI W) (lN (2 ^ W - 1)) a1 a2 a3 a4 a5 a6 a7 a8 := by
  have same : wL_law_282 post L xs J (nI (er_G C)) x4 (nI l) 0 kc ks (nI W) (lN (2 ^ W - 1)) a1 a2 a3 a4 a5 a6 a7 a8 := er_282' K hW4 hW hl (HJ C _ _ _ _ _ _ _ _ K)
  unfold wL_law_99
  refine br_c (fun _ => br_c (fun _ => br_c (fun _ => ?_) (fun _ => br_c (fun _ => br_c (fun _ => ?_) (fun _ => same)) (fun _ => same))) (fun _ => ?_)) (fun _ => ?_)
  · exact er_limits K hl (fun r b6 b7 K' => er_282' K' hW4 hW hl (HJ C _ _ _ _ _ _ _ _ K'))
  · refine er_rekey K hl (fun b1 b2 b3 b4 K' => ?_)
    refine br_t (er_Gget (er_KC K) l hl).symm (nm_r (er_Gclr (er_KC K) l hl) ?_)
    exact er_282' K' hW4 hW hl (HJ _ _ _ _ _ _ _ _ _ K')
  · obtain ⟨t, ht, et⟩ := pk_andE (x6 >>> ((10 : Int32) &&& 31)) (m := 7) 3 (by decide)
    obtain ⟨u, hu, eu⟩ := pk_andE (x6 >>> ((13 : Int32) &&& 31)) (m := 15) 4 (by decide)
    have e1 : (1 : Int32) + nI u = nI (1 + u) := nI_add 1 u
    rw [et, eu, e1]
    obtain ⟨p1, p2⟩ := er_step t ht
    refine er_burst K (by omega) (by omega) hW4 hW hl hlow p1 p2 (fun g b1 b2 b3 b4 b5 b6 b7 b8 K' => ?_)
    have hg : g ≤ 60 := by
      have := er_KC K' l hl
      rw [er_set_s] at this
      omega
    refine pk_le 0 g (fun _ => ?_) (fun z => absurd z (by omega))
    exact er_282 K' hW4 hW (er_Gadd hg l hl) (HJ _ _ _ _ _ _ _ _ _ K')
  · refine er_receive K hW4 hW hl hlow (fun b1 b2 b3 b4 b5 b8 K' => ?_) (fun v b8 v1 v2 => ?_)
    · refine br_f (by decide) (br_t (by decide) (br_t rfl ?_))
      unfold wL_law_150
      exact er_282 K' hW4 hW (er_Gadd (g := 1) (by omega) l hl) (HJ _ _ _ _ _ _ _ _ _ K')
    · refine pk_lt v 1 (fun z => absurd z (by omega)) (fun _ => pk_le v 5 (fun _ => pk_eq v 1 (fun z => absurd z (by omega)) (fun _ => ?_)) (fun z => absurd z (by omega)))
      unfold wL_law_150
      exact er_282' K hW4 hW hl (HJ C _ _ _ _ _ _ _ _ K)
end
theorem er_cell {post : Int32 → Prop} {L : Nat} {xs : Nat → Int32} {k : Nat} (hL : L ≤ 260) (hk : k ≤ 300) (H : ∀ r, post r) : wpL_cell post L xs () (nI k) :=
  pk_le L k (fun _ => H _) (fun z => ⟨pk_in k L z, H _⟩)
theorem er_20 {L : Nat} {xs : Nat → Int32} {kc ks W : Nat} (hL : L ≤ 260) (hW4 : 4 ≤ W) (hW : W ≤ 64) :
    ∀ (d k : Nat) (C : Nat → Nat) (a1 a2 : Nat → Int32) (a3 : Nat → Int64) (a4 a5 a6 a7 a8 : Nat → Int32), L ≤ k + 2 * d → k ≤ 261 → er_K W C a1 a2 a3 a4 a5 a7 →
      wL_law_20 (fun r => r = 1) L xs kc ks (d + 1) (nI (er_G C)) (nI k) (nI W) (lN (2 ^ W - 1)) a1 a2 a3 a4 a5 a6 a7 a8 := by
  intro d
  induction d with
  | zero =>
    intro k C a1 a2 a3 a4 a5 a6 a7 a8 h1 h2 K
    exact pk_le L k (fun _ => rfl) (fun z => absurd z (by omega))
  | succ d ih =>
    intro k C a1 a2 a3 a4 a5 a6 a7 a8 h1 h2 K
    refine pk_le L k (fun _ => rfl) (fun z => ?_)
    refine er_cell hL (by omega) (fun r => ?_)
    rw [nI_1]
    refine er_cell hL (by omega) (fun r' => ?_)
    obtain ⟨l, hl, el⟩ := pk_andE (r >>> ((4 : Int32) &&& 31)) (m := 3) 2 (by decide)
    have hl : l < 4 := hl
    obtain ⟨low, hlow, elow⟩ := pk_andE r' (m := 255) 8 (by decide)
    have HJ : ∀ (C' : Nat → Nat) (b1 b2 : Nat → Int32) (b3 : Nat → Int64) (b4 b5 b6 b7 b8 : Nat → Int32), er_K W C' b1 b2 b3 b4 b5 b7 → wL_law_20 (fun r => r = 1) L xs kc ks (d + 1) (nI (er_G C')) (nI k + 2) (nI W) (lN (2 ^ W - 1)) b1 b2 b3 b4 b5 b6 b7 b8 := fun C' b1 b2 b3 b4 b5 b6 b7 b8 K' => by
      rw [show nI k + 2 = nI (k + 2) from nI_add k 2]
      exact ih (k + 2) C' b1 b2 b3 b4 b5 b6 b7 b8 (by omega) (by omega) K'
    refine nm_e (nm_r el (nm_r elow (br_c (fun _ => ?_) (fun _ => ?_))))
    · exact er_99 K hW4 hW hl hlow HJ
    · obtain ⟨T, B, h, f, e1, e2, e3, e4, e7, e5, P⟩ := K l hl
      refine er_top hl e1 e2 ?_
      obtain ⟨lo2, hlo2, elo2⟩ := pk_andE ((nI T + (r' &&& 63)) - 20) (m := 255) 8 (by decide)
      exact nm_r elo2 (er_99 K hW4 hW hl hlo2 HJ)
/-! ===== the constructor ===== -/
theorem er_121 {post : St2 → Prop} {mc ms kc ks : Nat} {w : Int32} {m : Int64} {a1 a2 a4 a5 a8 : Nat → Int32} {a3 : Nat → Int64} (H : ∀ b6 b7 : Nat → Int32, (∀ j, j < 4 → b7 j = 60) → post (w, m, a1, a2, a3, a4, a5, b6, b7, a8)) :
    ∀ (d i : Nat) (b6 b7 : Nat → Int32), i + d = 4 → (∀ j, j < i → b7 j = 60) → wX_init_121 post mc ms kc ks w m (d + 1) (nI i) a1 a2 a3 a4 a5 b6 b7 a8 := by
  intro d
  induction d with
  | zero =>
    intro i b6 b7 hi hb
    exact pk_le 4 i (fun _ => H b6 b7 (fun j hj => hb j (by omega))) (fun z => absurd z (by omega))
  | succ d ih =>
    intro i b6 b7 hi hb
    refine pk_le 4 i (fun z => absurd z (by omega)) (fun _ => ⟨pk_in i 4 (by omega), nm_e ⟨pk_in i 4 (by omega), nm_e (nm_r (nI_1 i) (ih (i + 1) _ _ (by omega) (fun j hj => ?_)))⟩⟩)
    rw [nI_clamp (by omega)]
    rcases Nat.lt_or_ge j i with z | z
    · rw [pk_un (by omega)]
      exact hb j z
    · rw [show j = i by omega, pk_us]
theorem er_K0 {W : Nat} {b7 : Nat → Int32} (hb : ∀ j, j < 4 → b7 j = 60) : er_K W (fun _ => 0) (fun _ => 0) (fun _ => 0) (fun _ => 0) (fun _ => 0) (fun _ => 0) b7 :=
  fun l hl => ⟨0, 0, 60, fun _ => 0, rfl, rfl, rfl, rfl, hb l hl, fun j hj => absurd hj (Nat.not_lt_zero j), er_P0 (by decide)⟩
theorem er_92 {post : St2 → Prop} {mc ms kc ks W : Nat} {m0 : Int64} (hW4 : 4 ≤ W) (hW : W ≤ 64)
    (H : ∀ b6 b7 : Nat → Int32, (∀ j, j < 4 → b7 j = 60) → post (nI W, lN (2 ^ W - 1), (fun _ => 0), (fun _ => 0), (fun _ => 0), (fun _ => 0), (fun _ => 0), b6, b7, (fun _ => 0))) :
    wX_init_92 post mc ms kc ks (nI W) m0 (fun _ => 0) (fun _ => 0) (fun _ => 0) (fun _ => 0) (fun _ => 0) (fun _ => 0) (fun _ => 0) (fun _ => 0) := by
  refine pk_eq W 64 (fun z => ?_) (fun z => nm_r (e' := lN (2 ^ W - 1)) ?_ ?_)
  · subst z
    rw [show (-1 : Int64) = lN (2 ^ 64 - 1) by decide]
    exact ⟨5, er_121 H 4 0 _ _ (by omega) (fun j hj => absurd hj (by omega))⟩
  · have hp : 1 ≤ 2 ^ W := Nat.two_pow_pos W
    rw [show (1 : Int64) = lN 1 from rfl, wb_shl 1 (by omega), Nat.one_mul, lN_sub hp]
  · exact ⟨5, er_121 H 4 0 _ _ (by omega) (fun j hj => absurd hj (by omega))⟩
theorem er_init {post : St2 → Prop} {p0 : Int32}
    (H : ∀ (W : Nat) (b6 b7 : Nat → Int32), 4 ≤ W → W ≤ 64 → (∀ j, j < 4 → b7 j = 60) → post (nI W, lN (2 ^ W - 1), (fun _ => 0), (fun _ => 0), (fun _ => 0), (fun _ => 0), (fun _ => 0), b6, b7, (fun _ => 0))) :
    wpX_init post 8 288 (0, 0) p0 := by
  refine ⟨by decide, by decide, by decide, by decide, by decide, by decide, by decide, by decide, by decide, by decide, by decide, by decide, by decide, by decide, by decide, by decide, br_c (fun z => br_c (fun y => ?_) (fun _ => ?_)) (fun _ => br_t (by decide) ?_)⟩
  · have z0 : ¬ p0 < 0 := fun t => by
      rw [Int32.lt_iff_toInt_lt] at t
      rw [Int32.le_iff_toInt_le] at z
      have t0 : (0 : Int32).toInt = 0 := by decide
      have t1 : (4 : Int32).toInt = 4 := by decide
      omega
    obtain ⟨W, hW, eW⟩ := nI_of2 (n := 64) (by decide) z0 y
    subst eW
    have hW4 : 4 ≤ W := (nI_leI (a := 4) (by decide) (by omega)).mp z
    exact er_92 hW4 hW (fun b6 b7 hb => H W b6 b7 hW4 hW hb)
  · exact er_92 (W := 64) (by decide) (by decide) (fun b6 b7 hb => H 64 b6 b7 (by decide) (by decide) hb)
  · exact er_92 (W := 4) (by decide) (by decide) (fun b6 b7 hb => H 4 b6 b7 (by decide) (by decide) hb)
end
section
theorem i_vc (xs : Nat → Int32) (L : Nat) (hL : L ≤ 260) : wpL_law (fun r => r = 1) L xs := by
  unfold wpL_law
  refine er_cell (k := 0) hL (by omega) (fun r => ⟨8, 288, by decide, by decide, er_init (fun W b6 b7 hW4 hW hb => ⟨131, ?_⟩)⟩)
  exact er_20 hL hW4 hW 130 1 (fun _ => 0) _ _ _ _ _ b6 b7 _ (by omega) (by omega) (er_K0 hb)
end
