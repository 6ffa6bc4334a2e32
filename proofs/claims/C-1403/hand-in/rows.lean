section
/-! pure rows to paste: stores, nI and lN arithmetic, masks, shifts, narrowing, branches by naturals (pk_le, pk_lt, pk_eq), loops (lp1 .. lp16: the measure of the state; rp1 ..: recursion), negatives. Take what you need -/
theorem pk_us {f : Nat → Int32} {k : Nat} {x : Int32} : upd f k x k = x := if_pos rfl
theorem pk_un {f : Nat → Int32} {k j : Nat} {x : Int32} (h : j ≠ k) : upd f k x j = f j := if_neg h
theorem pk_uLs {f : Nat → Int64} {k : Nat} {x : Int64} : vp_updL f k x k = x := if_pos rfl
theorem pk_uLn {f : Nat → Int64} {k j : Nat} {x : Int64} (h : j ≠ k) : vp_updL f k x j = f j := if_neg h
theorem pk_sub {a b : Nat} (h : b ≤ a) : nI a - nI b = nI (a - b) := by
  obtain ⟨c, rfl⟩ : ∃ c, a = c + b := ⟨a - b, by omega⟩
  rw [← nI_add, Int32.add_sub_cancel, Nat.add_sub_cancel]
theorem pk_m1 (n : Nat) : nI (n + 1) + (-1) = nI n := by
  rw [← nI_1, Int32.add_assoc, show (1 : Int32) + (-1) = 0 from rfl, Int32.add_zero]
theorem pk_mul (a b : Nat) : nI a * nI b = nI (a * b) := (Int32.ofNat_mul a b).symm
theorem pk_div {a d : Nat} (ha : a < 2 ^ 31) (h0 : 0 < d) (hd : d < 2 ^ 31) : nI a / nI d = nI (a / d) := by
  apply Int32.toInt_inj.mp
  rw [lg_idiv_nonneg (by rw [nI_toInt ha]; omega) (by rw [nI_toInt hd]; omega), nI_toInt ha, nI_toInt hd, nI_toInt (Nat.lt_of_le_of_lt (Nat.div_le_self a d) ha)]
  first | rfl | exact (Int.natCast_ediv _ _).symm
theorem pk_rem {a d : Nat} (ha : a < 2 ^ 31) (h0 : 0 < d) (hd : d < 2 ^ 31) : nI a - nI a / nI d * nI d = nI (a % d) := by
  rw [pk_div ha h0 hd, pk_mul, pk_sub (Nat.div_mul_le_self a d)]
  exact congrArg nI (by have := Nat.div_add_mod' a d; omega)
theorem pk_sub_toInt {a b : Nat} (ha : a < 2 ^ 30) (hb : b < 2 ^ 30) : (nI a - nI b).toInt = (a : Int) - b := by
  rw [Int32.toInt_sub, nI_toInt (by omega), nI_toInt (by omega)]
  exact Int.bmod_eq_of_le (by omega) (by omega)
theorem pk_sneg {a b : Nat} (hb : b < 2 ^ 30) (h : a < b) : nI a - nI b < 0 := by
  rw [Int32.lt_iff_toInt_lt, pk_sub_toInt (by omega) hb, show (0 : Int32).toInt = 0 from by decide]
  omega
theorem pk_ix (x : Int32) {n : Nat} (hn : n < 2 ^ 31) : x < 0 ∨ nI n ≤ x ∨ ∃ j : Nat, j < n ∧ x = nI j := by
  by_cases h : x < 0
  · exact Or.inl h
  · obtain ⟨j, hj, rfl⟩ := nI_of h
    by_cases h2 : j < n
    · exact Or.inr (Or.inr ⟨j, h2, rfl⟩)
    · exact Or.inr (Or.inl (nI_le (by omega) hj))
theorem pk_le {x y : Int32} {A B : Prop} (a b : Nat) (f : a ≤ b → A) (g : b < a → B) (hx : x = nI a := by rfl) (hy : y = nI b := by rfl) (ha : a < 2 ^ 31 := by omega) (hb : b < 2 ^ 31 := by omega) : (x ≤ y → A) ∧ (¬ x ≤ y → B) := by
  subst hx hy
  rw [nI_leI ha hb]
  exact ⟨f, fun z => g (by omega)⟩
theorem pk_lt {x y : Int32} {A B : Prop} (a b : Nat) (f : a < b → A) (g : b ≤ a → B) (hx : x = nI a := by rfl) (hy : y = nI b := by rfl) (ha : a < 2 ^ 31 := by omega) (hb : b < 2 ^ 31 := by omega) : (x < y → A) ∧ (¬ x < y → B) := by
  subst hx hy
  rw [nI_ltI ha hb]
  exact ⟨f, fun z => g (by omega)⟩
theorem pk_eq {x y : Int32} {A B : Prop} (a b : Nat) (f : a = b → A) (g : a ≠ b → B) (hx : x = nI a := by rfl) (hy : y = nI b := by rfl) (ha : a < 2 ^ 31 := by omega) (hb : b < 2 ^ 31 := by omega) : (x = y → A) ∧ (¬ x = y → B) := by
  subst hx hy
  rw [nI_eq ha hb]
  exact ⟨f, g⟩
theorem pk_in {x : Int32} (n N : Nat) (h : n < N) (hx : x = nI n := by rfl) (hN : N < 2 ^ 31 := by omega) : vp_in x N := by
  subst hx
  exact vp_in_nI h hN
theorem pk_cl {x : Int32} (n : Nat) (hx : x = nI n := by rfl) (h : n < 2 ^ 31 := by omega) : x.toNatClampNeg = n := by
  subst hx
  exact nI_clamp h
theorem pk_tn {n : Nat} (h : n < 2 ^ 32) : (nI n).toBitVec.toNat = n := Nat.mod_eq_of_lt h
theorem pk_and (x : Int32) {m : Int32} (k : Nat) (hm : m.toBitVec.toNat = 2 ^ k - 1) : x &&& m = nI (x.toBitVec.toNat % 2 ^ k) := by
  apply Int32.toBitVec_inj.mp
  apply BitVec.eq_of_toNat_eq
  rw [Int32.toBitVec_and, BitVec.toNat_and, hm, Nat.and_two_pow_sub_one_eq_mod]
  show _ = (BitVec.ofNat 32 _).toNat
  rw [BitVec.toNat_ofNat]
  exact (Nat.mod_eq_of_lt (Nat.lt_of_le_of_lt (Nat.mod_le _ _) x.toBitVec.isLt)).symm
theorem pk_andN {n : Nat} (h : n < 2 ^ 32) {m : Int32} (k : Nat) (hm : m.toBitVec.toNat = 2 ^ k - 1) : nI n &&& m = nI (n % 2 ^ k) := by
  rw [pk_and _ k hm, pk_tn h]
theorem pk_andE (x : Int32) {m : Int32} (k : Nat) (hm : m.toBitVec.toNat = 2 ^ k - 1) : ∃ j : Nat, j < 2 ^ k ∧ x &&& m = nI j := ⟨_, Nat.mod_lt _ (Nat.two_pow_pos k), pk_and x k hm⟩
theorem pk_andIn (x : Int32) {m : Int32} (k : Nat) (hm : m.toBitVec.toNat = 2 ^ k - 1) (hk : k ≤ 30) : vp_in (x &&& m) (2 ^ k) := by
  obtain ⟨j, hj, e⟩ := pk_andE x k hm
  rw [e]
  exact vp_in_nI hj (Nat.lt_of_le_of_lt (Nat.pow_le_pow_right (by decide) hk) (by decide))
theorem pk_shl (a s : Int32) (k : Nat) (hs : (s.toBitVec.smod 32).toNat = k) : (a <<< s).toBitVec.toNat = a.toBitVec.toNat * 2 ^ k % 2 ^ 32 := by
  show (a.toBitVec <<< (s.toBitVec.smod 32).toNat).toNat = _
  rw [hs, BitVec.toNat_shiftLeft, Nat.shiftLeft_eq]
theorem pk_shlN {n : Nat} (s : Int32) (k : Nat) (hs : (s.toBitVec.smod 32).toNat = k) (h : n * 2 ^ k < 2 ^ 32) : nI n <<< s = nI (n * 2 ^ k) := by
  apply Int32.toBitVec_inj.mp
  apply BitVec.eq_of_toNat_eq
  have hn : n < 2 ^ 32 := Nat.lt_of_le_of_lt (Nat.le_mul_of_pos_right n (Nat.two_pow_pos k)) h
  rw [pk_shl _ _ k hs, pk_tn hn, pk_tn h, Nat.mod_eq_of_lt h]
theorem pk_shr (a s : Int32) (k : Nat) (hs : (s.toBitVec.smod 32).toNat = k) : (a >>> s).toInt = a.toInt >>> k := by
  show (a.toBitVec.sshiftRight (s.toBitVec.smod 32).toNat).toInt = _
  rw [hs, BitVec.toInt_sshiftRight]
  rfl
theorem pk_shrN {n : Nat} (h : n < 2 ^ 31) (s : Int32) (k : Nat) (hs : (s.toBitVec.smod 32).toNat = k) : nI n >>> s = nI (n / 2 ^ k) := by
  apply Int32.toInt_inj.mp
  have h2 : n / 2 ^ k ≤ n := Nat.div_le_self _ _
  rw [pk_shr _ _ k hs, nI_toInt h, nI_toInt (by omega), Int.shiftRight_eq_div_pow]
  rfl
theorem pk_ushr (x s : Int32) (k : Nat) (hs : ((s.toUInt32 &&& Int32.toUInt32 31).toBitVec % 32).toNat = k) : (x.toUInt32 >>> (s.toUInt32 &&& Int32.toUInt32 31)).toInt32.toBitVec.toNat = x.toBitVec.toNat / 2 ^ k := by
  have e : (x.toUInt32 >>> (s.toUInt32 &&& Int32.toUInt32 31)).toInt32.toBitVec = x.toBitVec >>> k := by
    rw [← hs]
    exact UInt32.toBitVec_shiftRight _ _
  rw [e, BitVec.toNat_ushiftRight, Nat.shiftRight_eq_div_pow]
theorem pk_ushrN {n : Nat} (hn : n < 2 ^ 32) (s : Int32) (k : Nat) (hs : ((s.toUInt32 &&& Int32.toUInt32 31).toBitVec % 32).toNat = k) : ((nI n).toUInt32 >>> (s.toUInt32 &&& Int32.toUInt32 31)).toInt32 = nI (n / 2 ^ k) := by
  apply Int32.toBitVec_inj.mp
  apply BitVec.eq_of_toNat_eq
  rw [pk_ushr _ s k hs, pk_tn hn, pk_tn (Nat.lt_of_le_of_lt (Nat.div_le_self _ _) hn)]
theorem pk_nb (z : Int32) : narrow .byte (.int z.toInt8.toInt32) = .int z.toInt8.toInt32 := congrArg Value.int (by simp)
theorem pk_ns (z : Int32) : narrow .short (.int z.toInt16.toInt32) = .int z.toInt16.toInt32 := congrArg Value.int (by simp)
theorem pk_fb (r : Int32) : fits .byte (.int r.toInt8.toInt32) = true := by
  have ⟨a, b⟩ := lg_i2b_range r
  have h1 : (-128 : Int32).toInt = -128 := by decide
  have h2 : (127 : Int32).toInt = 127 := by decide
  simp only [fits, Bool.and_eq_true, decide_eq_true_eq, Int32.le_iff_toInt_le, h1, h2]
  omega
theorem pk_fs (r : Int32) : fits .short (.int r.toInt16.toInt32) = true := by
  have ⟨a, b⟩ := lg_i2s_range r
  have h1 : (-32768 : Int32).toInt = -32768 := by decide
  have h2 : (32767 : Int32).toInt = 32767 := by decide
  simp only [fits, Bool.and_eq_true, decide_eq_true_eq, Int32.le_iff_toInt_le, h1, h2]
  omega
theorem pk_charN {q : Nat} (hq : q < 65536) : narrow .char (.int (nI q)) = .int (nI q) ∧ fits .char (.int (nI q)) = true := by
  constructor
  · have e : (nI q).toUInt32.toUInt16.toUInt32.toInt32 = nI q := by
      apply Int32.toBitVec_inj.mp
      apply BitVec.eq_of_toNat_eq
      show (nI q).toUInt32.toUInt16.toUInt32.toNat = q % 2 ^ 32
      rw [UInt16.toNat_toUInt32, UInt32.toNat_toUInt16, show (nI q).toUInt32.toNat = q % 2 ^ 32 from rfl]
      omega
    exact congrArg Value.int e
  · have a : (0 : Int32) ≤ nI q := nI_pos' (by omega)
    have b : nI q ≤ 65535 := nI_le (b := 65535) (by omega) (by decide)
    show (decide ((0 : Int32) ≤ nI q) && decide (nI q ≤ 65535)) = true
    rw [decide_eq_true a, decide_eq_true b]
    rfl
theorem pk_char (x : Int32) : (x.toUInt32 % 65536).toInt32 = nI (x.toBitVec.toNat % 65536) := by
  apply Int32.toBitVec_inj.mp
  apply BitVec.eq_of_toNat_eq
  rw [pk_tn (by omega)]
  show (x.toUInt32 % 65536).toNat = _
  rw [UInt32.toNat_mod]
  rfl
theorem pk_nc (x : Int32) : narrow .char (.int (x.toUInt32 % 65536).toInt32) = .int (x.toUInt32 % 65536).toInt32 := by
  rw [pk_char]
  exact (pk_charN (Nat.mod_lt _ (by decide))).1
theorem pk_fc (x : Int32) : fits .char (.int (x.toUInt32 % 65536).toInt32) = true := by
  rw [pk_char]
  exact (pk_charN (Nat.mod_lt _ (by decide))).2
theorem pk_vb (z : Int32) : vp_nar .byte z.toInt8.toInt32 = z.toInt8.toInt32 := by rw [vp_nar_byte]; simp
theorem pk_vs (z : Int32) : vp_nar .short z.toInt16.toInt32 = z.toInt16.toInt32 := by rw [vp_nar_short]; simp
theorem pk_vc (z : Int32) : vp_nar .char (z.toUInt32 % 65536).toInt32 = (z.toUInt32 % 65536).toInt32 := Value.int.inj (pk_nc z)
theorem pk_lT {n : Nat} (h : n < 2 ^ 63) : (lN n).toInt = (n : Int) := lg_ofNat_toInt h
theorem pk_lLT {a b : Nat} (ha : a < 2 ^ 63) (hb : b < 2 ^ 63) : lN a < lN b ↔ a < b := by
  rw [Int64.lt_iff_toInt_lt, pk_lT ha, pk_lT hb]; omega
theorem pk_lLE {a b : Nat} (ha : a < 2 ^ 63) (hb : b < 2 ^ 63) : lN a ≤ lN b ↔ a ≤ b := by
  rw [Int64.le_iff_toInt_le, pk_lT ha, pk_lT hb]; omega
theorem pk_lEQ {a b : Nat} (ha : a < 2 ^ 63) (hb : b < 2 ^ 63) : lN a = lN b ↔ a = b := by
  rw [← Int64.toInt_inj, pk_lT ha, pk_lT hb]; omega
theorem pk_lOf {x : Int64} (h : ¬ x < 0) : ∃ k : Nat, k < 2 ^ 63 ∧ x = lN k := by
  rw [Int64.lt_iff_toInt_lt] at h
  have h0 : (0 : Int64).toInt = 0 := by decide
  have hx := Int64.toInt_lt x
  refine ⟨x.toInt.toNat, by omega, Int64.toInt_inj.mp ?_⟩
  rw [pk_lT (by omega)]
  omega
theorem pk_lDiv {a b : Nat} (ha : a < 2 ^ 63) (h0 : 0 < b) (hb : b < 2 ^ 63) : lN a / lN b = lN (a / b) := by
  apply Int64.toInt_inj.mp
  rw [lg_ldiv_nonneg (by rw [pk_lT ha]; omega) (by rw [pk_lT hb]; omega), pk_lT ha, pk_lT hb, pk_lT (Nat.lt_of_le_of_lt (Nat.div_le_self a b) ha)]
  rfl
theorem pk_lRem {a b : Nat} (ha : a < 2 ^ 63) (h0 : 0 < b) (hb : b < 2 ^ 63) : lN a - lN a / lN b * lN b = lN (a % b) := by
  rw [pk_lDiv ha h0 hb, lN_mul, lN_sub (Nat.div_mul_le_self a b)]
  exact congrArg lN (by have := Nat.div_add_mod' a b; omega)
theorem ek_if {c d A B : Prop} (e : c ↔ d) (f : d → A) (g : ¬ d → B) : (c → A) ∧ (¬ c → B) :=
  ⟨fun z => f (e.mp z), fun z => g (fun y => z (e.mpr y))⟩
theorem ek_v {α : Sort _} {P : α → Prop} {a b : α} (e : a = b) (h : P b) : P a := e ▸ h
theorem ts_nf {x : Bool} (h : ¬ x = false) : x = true := by cases x <;> first | rfl | exact absurd rfl h
theorem ts_nt {x : Bool} (h : ¬ x = true) : x = false := by cases x <;> first | rfl | exact absurd rfl h
/-! ===== lN n to 2^64: shifts, and, or, masks, one bit ===== -/
theorem wb_tb (n : Nat) : (lN n).toBitVec = BitVec.ofNat 64 n := rfl
theorem wb_inj {a b : Int64} (h : a.toBitVec = b.toBitVec) : a = b := Int64.toBitVec_inj.mp h
theorem wb_tn {n : Nat} (h : n < 2 ^ 64) : (lN n).toBitVec.toNat = n := by rw [wb_tb, BitVec.toNat_ofNat, Nat.mod_eq_of_lt h]
theorem wb_of (x : Int64) : ∃ n, n < 2 ^ 64 ∧ x = lN n := ⟨x.toBitVec.toNat, x.toBitVec.isLt, wb_inj (by rw [wb_tb]; simp)⟩
theorem wb_of32 (x : Int32) : ∃ n, n < 2 ^ 32 ∧ x = nI n := ⟨x.toBitVec.toNat, x.toBitVec.isLt, Int32.toBitVec_inj.mp (by show _ = BitVec.ofNat 32 _; simp)⟩
theorem wb_c : ∀ k, k < 64 → ((nI k).toInt64 &&& 63) = lN k := by decide +kernel
theorem wb_cu : ∀ k, k < 64 → ((nI k).toInt64.toUInt64 &&& Int64.toUInt64 63) = UInt64.ofNat k := by decide +kernel
theorem wb_sm : ∀ k, k < 64 → (BitVec.ofNat 64 k).smod 64 = BitVec.ofNat 64 k := by decide +kernel
theorem wb_pw {a b : Nat} (h : a ≤ b) : 2 ^ b = 2 ^ a * 2 ^ (b - a) := by rw [← Nat.pow_add]; congr 1; omega
theorem wb_lt2 {a b : Nat} (h : a < b) : 2 ^ a < 2 ^ b := Nat.pow_lt_pow_right (by decide) h
theorem wb_mod (n : Nat) : lN n = lN (n % 2 ^ 64) := wb_inj (by rw [wb_tb, wb_tb]; apply BitVec.eq_of_toNat_eq; rw [BitVec.toNat_ofNat, BitVec.toNat_ofNat, Nat.mod_mod])
theorem wb_shr {n k : Nat} (hn : n < 2 ^ 64) (hk : k < 64) : ((lN n).toUInt64 >>> ((nI k).toInt64.toUInt64 &&& Int64.toUInt64 63)).toInt64 = lN (n / 2 ^ k) := by
  rw [wb_cu k hk]
  apply wb_inj
  apply BitVec.eq_of_toNat_eq
  show ((lN n).toUInt64 >>> UInt64.ofNat k).toNat = (BitVec.ofNat 64 _).toNat
  have h1 : (UInt64.ofNat k).toNat = k := by
    show (BitVec.ofNat 64 k).toNat = k
    rw [BitVec.toNat_ofNat, Nat.mod_eq_of_lt (by omega)]
  have h2 : (lN n).toUInt64.toNat = n := wb_tn hn
  rw [UInt64.toNat_shiftRight, h1, h2, Nat.mod_eq_of_lt hk, Nat.shiftRight_eq_div_pow, BitVec.toNat_ofNat, Nat.mod_eq_of_lt (Nat.lt_of_le_of_lt (Nat.div_le_self _ _) hn)]
theorem wb_shl (n : Nat) {k : Nat} (hk : k < 64) : lN n <<< ((nI k).toInt64 &&& 63) = lN (n * 2 ^ k) := by
  rw [wb_c k hk]
  apply wb_inj
  rw [Int64.toBitVec_shiftLeft, wb_tb, wb_tb, wb_tb, wb_sm k hk]
  apply BitVec.eq_of_toNat_eq
  rw [BitVec.shiftLeft_eq', BitVec.toNat_shiftLeft, BitVec.toNat_ofNat, BitVec.toNat_ofNat, BitVec.toNat_ofNat, Nat.mod_eq_of_lt (show k < 2 ^ 64 by omega), Nat.shiftLeft_eq, Nat.mul_mod, Nat.mod_mod, ← Nat.mul_mod]
theorem wb_and {a b : Nat} (ha : a < 2 ^ 64) (hb : b < 2 ^ 64) : lN a &&& lN b = lN (a &&& b) := by
  apply wb_inj
  rw [Int64.toBitVec_and, wb_tb, wb_tb, wb_tb]
  apply BitVec.eq_of_toNat_eq
  rw [BitVec.toNat_and, BitVec.toNat_ofNat, BitVec.toNat_ofNat, BitVec.toNat_ofNat, Nat.mod_eq_of_lt ha, Nat.mod_eq_of_lt hb, Nat.mod_eq_of_lt (Nat.and_lt_two_pow _ hb)]
theorem wb_or {a b : Nat} (ha : a < 2 ^ 64) (hb : b < 2 ^ 64) : lN a ||| lN b = lN (a ||| b) := by
  apply wb_inj
  rw [Int64.toBitVec_or, wb_tb, wb_tb, wb_tb]
  apply BitVec.eq_of_toNat_eq
  rw [BitVec.toNat_or, BitVec.toNat_ofNat, BitVec.toNat_ofNat, BitVec.toNat_ofNat, Nat.mod_eq_of_lt ha, Nat.mod_eq_of_lt hb, Nat.mod_eq_of_lt (Nat.or_lt_two_pow ha hb)]
theorem wb_mask {n k : Nat} (hn : n < 2 ^ 64) (hk : k < 64) : lN n &&& lN (2 ^ k - 1) = lN (n % 2 ^ k) := by
  rw [wb_and hn (by have := wb_lt2 hk; omega), Nat.and_two_pow_sub_one_eq_mod]
theorem wb_a1 {n : Nat} (hn : n < 2 ^ 64) : lN n &&& 1 = lN (n % 2) := wb_mask (k := 1) hn (by decide)
theorem wb_bit {n k : Nat} (hn : n < 2 ^ 64) (hk : k < 64) : ((lN n).toUInt64 >>> ((nI k).toInt64.toUInt64 &&& Int64.toUInt64 63)).toInt64 &&& 1 = lN (n / 2 ^ k % 2) := by
  rw [wb_shr hn hk, wb_a1 (Nat.lt_of_le_of_lt (Nat.div_le_self _ _) hn)]
end
section
/-! base: booleans, reads and writes by number, bits of a long, sums, counts, the last entry that matches -/
def bl_i (b : Bool) : Int32 := if b = true then 1 else 0
theorem bl_or (a b : Bool) : bl_i a ||| bl_i b = bl_i (a || b) := by cases a <;> cases b <;> decide
theorem bl_and (a b : Bool) : bl_i a &&& bl_i b = bl_i (a && b) := by cases a <;> cases b <;> decide
theorem bl_0 {b : Bool} : bl_i b = 0 ↔ b = false := by cases b <;> decide
theorem bl_n (b : Bool) : narrow .boolean (.int (bl_i b)) = .int (bl_i b) := by cases b <;> rfl
theorem bl_v (b : Bool) : vp_nar .boolean (bl_i b) = bl_i b := by cases b <;> decide
def bl_ok (a : Nat → Int32) : Prop := ∀ j, a j = 0 ∨ a j = 1
def bl_b (x : Int32) : Bool := decide (¬ x = 0)
theorem bl_e {x : Int32} (h : x = 0 ∨ x = 1) : x = bl_i (bl_b x) := by rcases h with h | h <;> rw [h] <;> decide
theorem bl_bt {x : Int32} (h : x ≠ 0) : bl_b x = true := decide_eq_true h
theorem bl_bf {x : Int32} (h : x = 0) : bl_b x = false := decide_eq_false (fun z => z h)
theorem bl_bi (b : Bool) : bl_b (bl_i b) = b := by cases b <;> decide
theorem bl_01 (b : Bool) : bl_i b = 0 ∨ bl_i b = 1 := by cases b <;> decide
theorem bl_nar {x : Int32} (h : x = 0 ∨ x = 1) : vp_nar .boolean x = x := by rw [bl_e h]; exact bl_v _
theorem bl_nrw {x : Int32} (h : x = 0 ∨ x = 1) : narrow .boolean (.int x) = .int x := by rw [bl_e h]; exact bl_n _
theorem bl_upd {a : Nat → Int32} {k : Nat} {x : Int32} (h : bl_ok a) (hx : x = 0 ∨ x = 1) : bl_ok (upd a k x) := by
  intro j
  by_cases e : j = k
  · rw [e, pk_us]; exact hx
  · rw [pk_un e]; exact h j
theorem bl_n0 : vp_nar .boolean 0 = 0 := by decide
theorem bl_n1 : vp_nar .boolean 1 = 1 := by decide
noncomputable def pb_p (P : Prop) : Bool := @decide P (Classical.propDecidable P)
theorem pb_t {P : Prop} (h : P) : pb_p P = true := by unfold pb_p; exact @decide_eq_true P (Classical.propDecidable P) h
theorem pb_f {P : Prop} (h : ¬ P) : pb_p P = false := by unfold pb_p; exact @decide_eq_false P (Classical.propDecidable P) h
theorem pb_i {P : Prop} : pb_p P = true ↔ P := by
  by_cases h : P
  · exact ⟨fun _ => h, fun _ => pb_t h⟩
  · exact ⟨fun z => by rw [pb_f h] at z; exact absurd z (by decide), fun z => absurd z h⟩
theorem pb_j {P : Prop} : pb_p P = false ↔ ¬ P := by
  by_cases h : P
  · exact ⟨fun z => by rw [pb_t h] at z; exact absurd z (by decide), fun z => absurd h z⟩
  · exact ⟨fun _ => h, fun _ => pb_f h⟩
theorem pb_c {P Q : Prop} (h : P ↔ Q) : pb_p P = pb_p Q := by rw [propext h]
theorem pb_or {P Q : Prop} : (pb_p P || pb_p Q) = pb_p (P ∨ Q) := by
  by_cases h : P
  · rw [pb_t h, pb_t (Or.inl h)]; rfl
  · by_cases g : Q
    · rw [pb_t g, pb_t (Or.inr g), Bool.or_true]
    · rw [pb_f h, pb_f g, pb_f (fun z => z.elim h g)]; rfl
theorem pb_and {P Q : Prop} : (pb_p P && pb_p Q) = pb_p (P ∧ Q) := by
  by_cases h : P
  · by_cases g : Q
    · rw [pb_t h, pb_t g, pb_t ⟨h, g⟩]; rfl
    · rw [pb_f g, pb_f (P := P ∧ Q) (fun z => g z.2), Bool.and_false]
  · rw [pb_f h, pb_f (P := P ∧ Q) (fun z => h z.1), Bool.false_and]
theorem bo_nf {x : Bool} (h : ¬ x = false) : x = true := by cases x <;> first | rfl | exact absurd rfl h
theorem bo_nt {x : Bool} (h : ¬ x = true) : x = false := by cases x <;> first | rfl | exact absurd rfl h
theorem bo_ext {a b : Bool} (h : a = true ↔ b = true) : a = b := by
  cases a <;> cases b <;> first | rfl | exact absurd (h.mp rfl) (by decide) | exact absurd (h.mpr rfl) (by decide)
/-! numbers -/
theorem nr_8 : ∀ n, n < 128 → (nI n).toInt8.toInt32 = nI n := by decide +kernel
theorem nr_16 : ∀ n, n < 400 → (nI n).toInt16.toInt32 = nI n := by decide +kernel
theorem nr_b {n : Nat} (h : n < 128) : vp_nar .byte (nI n) = nI n := by rw [vp_nar_byte]; exact nr_8 n h
theorem nr_s {n : Nat} (h : n < 400) : vp_nar .short (nI n) = nI n := by rw [vp_nar_short]; exact nr_16 n h
theorem nr_bb {n : Nat} (h : n < 128) : vp_nar .byte (nI n).toInt8.toInt32 = nI n := by rw [nr_8 n h]; exact nr_b h
theorem nr_ss {n : Nat} (h : n < 400) : vp_nar .short (nI n).toInt16.toInt32 = nI n := by rw [nr_16 n h]; exact nr_s h
theorem nr_le0 {n : Nat} (h : n < 2 ^ 31) : nI n ≤ 0 ↔ n = 0 := by
  rw [← nI_0, nI_leI h (by decide)]; omega
theorem nr_eq0 {n : Nat} (h : n < 2 ^ 31) : nI n = 0 ↔ n = 0 := by
  rw [← nI_0, nI_eq h (by decide)]
theorem nr_inj {a b : Nat} (h : nI a = nI b) (ha : a < 2 ^ 31) (hb : b < 2 ^ 31) : a = b := (nI_eq ha hb).mp h
def un_u {α : Type} (f : Nat → α) (k : Nat) (x : α) : Nat → α := fun j => if j = k then x else f j
theorem un_s {α : Type} {f : Nat → α} {k : Nat} {x : α} : un_u f k x k = x := if_pos rfl
theorem un_n {α : Type} {f : Nat → α} {k j : Nat} {x : α} (h : j ≠ k) : un_u f k x j = f j := if_neg h
theorem un_upd {a : Nat → Int32} {f : Nat → Nat} (h : ∀ j, a j = nI (f j)) (k x : Nat) : ∀ j, upd a k (nI x) j = nI (un_u f k x j) := by
  intro j
  by_cases e : j = k
  · rw [e, pk_us, un_s]
  · rw [pk_un e, un_n e]; exact h j
theorem rd_i {a : Nat → Int32} {f : Nat → Nat} (h : ∀ j, a j = nI (f j)) {i : Nat} (hi : i < 2 ^ 31) : a (nI i).toNatClampNeg = nI (f i) := by rw [nI_clamp hi]; exact h i
theorem rd_a {α : Type} {a : Nat → α} {i : Nat} (hi : i < 2 ^ 31) : a (nI i).toNatClampNeg = a i := by rw [nI_clamp hi]
theorem wr_i {a : Nat → Int32} {i : Nat} {x y : Int32} (hi : i < 2 ^ 31) (hx : x = y) : upd a (nI i).toNatClampNeg x = upd a i y := by rw [nI_clamp hi, hx]
theorem wr_l {a : Nat → Int64} {i : Nat} {x y : Int64} (hi : i < 2 ^ 31) (hx : x = y) : vp_updL a (nI i).toNatClampNeg x = vp_updL a i y := by rw [nI_clamp hi, hx]
theorem wr_self {a : Nat → Int64} {i : Nat} {x : Int64} (h : a i = x) : vp_updL a i x = a := by
  funext j
  by_cases e : j = i
  · rw [e, pk_uLs, h]
  · rw [pk_uLn e]
theorem wr_selfI {a : Nat → Int32} {i : Nat} {x : Int32} (h : a i = x) : upd a i x = a := by
  funext j
  by_cases e : j = i
  · rw [e, pk_us, h]
  · rw [pk_un e]
theorem wr_two {a : Nat → Int64} {i : Nat} {x y : Int64} : vp_updL (vp_updL a i x) i y = vp_updL a i y := by
  funext j
  by_cases e : j = i
  · rw [e, pk_uLs, pk_uLs]
  · rw [pk_uLn e, pk_uLn e, pk_uLn e]
/-! bits of a long -/
def mb_b (x : Int64) (k : Nat) : Bool := x.toBitVec.getLsbD k
theorem mb_ext {x y : Int64} (h : ∀ k, k < 64 → mb_b x k = mb_b y k) : x = y := wb_inj (BitVec.eq_of_getLsbD_eq (fun i hi => h i hi))
theorem mb_or (x y : Int64) (k : Nat) : mb_b (x ||| y) k = (mb_b x k || mb_b y k) := by unfold mb_b; rw [Int64.toBitVec_or, BitVec.getLsbD_or]
theorem mb_and (x y : Int64) (k : Nat) : mb_b (x &&& y) k = (mb_b x k && mb_b y k) := by unfold mb_b; rw [Int64.toBitVec_and, BitVec.getLsbD_and]
theorem mb_m1b : (-1 : Int64).toBitVec = BitVec.allOnes 64 := by decide
theorem mb_m1 {k : Nat} (hk : k < 64) : mb_b (-1) k = true := by
  unfold mb_b; rw [mb_m1b, BitVec.getLsbD_allOnes]; exact decide_eq_true hk
theorem mb_not {k : Nat} (hk : k < 64) (x : Int64) : mb_b (x ^^^ (-1)) k = !mb_b x k := by
  have h := mb_m1 hk
  unfold mb_b at h ⊢
  rw [Int64.toBitVec_xor, BitVec.getLsbD_xor, h, Bool.xor_true]
theorem mb_lN (n k : Nat) : mb_b (lN n) k = (decide (k < 64) && n.testBit k) := BitVec.getLsbD_ofNat 64 n k
theorem mb_0 (k : Nat) : mb_b 0 k = false := by
  have h := mb_lN 0 k
  rw [Nat.zero_testBit, Bool.and_false] at h
  exact h
theorem mb_lt {x : Int64} {k : Nat} (h : mb_b x k = true) : k < 64 := by
  apply Decidable.byContradiction
  intro z
  have g : mb_b x k = false := BitVec.getLsbD_of_ge x.toBitVec k (by omega)
  rw [g] at h
  exact absurd h (by decide)
theorem mb_z {x : Int64} : x = 0 ↔ ∀ k, k < 64 → mb_b x k = false :=
  ⟨fun h k _ => by rw [h]; exact mb_0 k, fun h => mb_ext (fun k hk => by rw [h k hk, mb_0])⟩
theorem mb_nz {x : Int64} (h : x ≠ 0) : ∃ k, k < 64 ∧ mb_b x k = true := by
  apply Classical.byContradiction
  intro z
  exact h (mb_z.mpr (fun k hk => bo_nt (fun e => z ⟨k, hk, e⟩)))
def mb_t (k : Nat) : Int64 := (1 : Int64) <<< ((nI k).toInt64 &&& 63)
theorem mb_te {k : Nat} (hk : k < 64) : mb_t k = lN (2 ^ k) := by
  have h := wb_shl 1 hk
  rw [Nat.one_mul] at h
  exact h
theorem mb_tb {k : Nat} (hk : k < 64) (j : Nat) : mb_b (mb_t k) j = decide (j = k) := by
  rw [mb_te hk, mb_lN, Nat.testBit_two_pow]
  by_cases e : j = k
  · subst e; rw [decide_eq_true hk, decide_eq_true rfl]; rfl
  · rw [decide_eq_false e, decide_eq_false (p := k = j) (fun z => e z.symm), Bool.and_false]
theorem mb_t0 {k : Nat} (hk : k < 64) (x : Int64) : (x &&& mb_t k) = 0 ↔ mb_b x k = false := by
  rw [mb_z]
  constructor
  · intro h
    have g := h k hk
    rw [mb_and, mb_tb hk, decide_eq_true rfl, Bool.and_true] at g
    exact g
  · intro h j _
    rw [mb_and, mb_tb hk]
    by_cases e : j = k
    · rw [e, h]; rfl
    · rw [decide_eq_false e, Bool.and_false]
theorem mb_t1 {k : Nat} (hk : k < 64) (x : Int64) : ¬ (x &&& mb_t k) = 0 ↔ mb_b x k = true := by
  rw [mb_t0 hk]; exact ⟨bo_nf, fun h g => by rw [h] at g; exact absurd g (by decide)⟩
theorem mb_a0 {x y : Int64} : (x &&& y) = 0 ↔ ∀ k, k < 64 → mb_b x k = true → mb_b y k = false := by
  rw [mb_z]
  constructor
  · intro h k hk hx
    have g := h k hk
    rw [mb_and, hx, Bool.true_and] at g
    exact g
  · intro h k hk
    rw [mb_and]
    cases hx : mb_b x k
    · rfl
    · rw [h k hk hx]; rfl
/-- a number whose lowest bit is k, less one -/
theorem mb_nl {X k : Nat} (hk : X.testBit k = true) (hl : ∀ j, j < k → X.testBit j = false) : 0 < X ∧ (X - 1).testBit k = false ∧ ∀ j, k < j → (X - 1).testBit j = X.testBit j := by
  have h0 : X % 2 ^ k = 0 := by
    apply Nat.eq_of_testBit_eq
    intro i
    rw [Nat.testBit_mod_two_pow, Nat.zero_testBit]
    by_cases e : i < k
    · rw [hl i e, Bool.and_false]
    · rw [decide_eq_false e, Bool.false_and]
  have h1 : X / 2 ^ k % 2 = 1 := by
    rw [Nat.testBit_eq_decide_div_mod_eq] at hk
    exact of_decide_eq_true hk
  have hd := Nat.div_add_mod X (2 ^ k)
  rw [h0, Nat.add_zero] at hd
  obtain ⟨q, hq⟩ : ∃ q, X / 2 ^ k = 2 * q + 1 := ⟨X / 2 ^ k / 2, by omega⟩
  rw [hq] at hd
  have hp : 0 < 2 ^ k := Nat.two_pow_pos k
  have e1 : X = 2 ^ k * (2 * q + 1) + 0 := by rw [Nat.add_zero]; exact hd.symm
  have e2 : X - 1 = 2 ^ k * (2 * q) + (2 ^ k - 1) := by
    rw [← hd, Nat.mul_add, Nat.mul_one]; omega
  have hX : 0 < X := by rw [← hd]; exact Nat.mul_pos hp (by omega)
  refine ⟨hX, ?_, ?_⟩
  · rw [e2, Nat.testBit_two_pow_mul_add _ (by omega), if_neg (by omega), Nat.sub_self, Nat.testBit_zero]
    exact decide_eq_false (by omega)
  · intro j hj
    obtain ⟨i, rfl⟩ : ∃ i, j = k + (i + 1) := ⟨j - k - 1, by omega⟩
    rw [e2, Nat.testBit_two_pow_mul_add _ (by omega), if_neg (by omega), e1, Nat.testBit_two_pow_mul_add _ hp, if_neg (by omega), Nat.add_sub_cancel_left, Nat.testBit_add_one, Nat.testBit_add_one]
    congr 1
    omega
theorem mb_clr {x : Int64} {k : Nat} (hk : mb_b x k = true) (hl : ∀ j, j < k → mb_b x j = false) (j : Nat) : mb_b (x &&& (x - 1)) j = (mb_b x j && !decide (j = k)) := by
  obtain ⟨X, hX, rfl⟩ := wb_of x
  have k64 := mb_lt hk
  have tk : X.testBit k = true := by
    rw [mb_lN, decide_eq_true k64, Bool.true_and] at hk; exact hk
  have tl : ∀ j, j < k → X.testBit j = false := by
    intro j hj
    have g := hl j hj
    rw [mb_lN, decide_eq_true (by omega), Bool.true_and] at g
    exact g
  obtain ⟨h0, h1, h2⟩ := mb_nl tk tl
  have e : lN X - 1 = lN (X - 1) := lN_sub (b := 1) h0
  rw [e, mb_and, mb_lN, mb_lN]
  by_cases c : j < 64
  · rw [decide_eq_true c, Bool.true_and, Bool.true_and]
    by_cases c1 : j = k
    · rw [c1, h1, decide_eq_true rfl, Bool.and_false]; exact (Bool.and_false _).symm
    · rw [decide_eq_false c1]
      by_cases c2 : k < j
      · rw [h2 j c2, Bool.and_self]; exact (Bool.and_true _).symm
      · rw [tl j (by omega)]; rfl
  · rw [decide_eq_false c]; rfl
def mb_n (x : Int64) : Nat := x.toBitVec.toNat
theorem mb_nlt {x : Int64} (h : x ≠ 0) : mb_n (x &&& (x - 1)) < mb_n x := by
  obtain ⟨X, hX, rfl⟩ := wb_of x
  have h0 : 1 ≤ X := by
    apply Nat.pos_of_ne_zero
    intro z
    exact h (by rw [z]; rfl)
  have e : lN X - 1 = lN (X - 1) := lN_sub (b := 1) h0
  unfold mb_n
  rw [Int64.toBitVec_and, BitVec.toNat_and, e, wb_tn hX, wb_tn (by omega)]
  have := Nat.and_le_right (n := X) (m := X - 1)
  omega
/-! sums of longs -/
def is_m (f : Nat → Int64) : Nat → Int64
  | 0 => 0
  | n + 1 => is_m f n + f n
theorem is_s (f : Nat → Int64) (n : Nat) : is_m f (n + 1) = is_m f n + f n := rfl
theorem is_c {f g : Nat → Int64} : ∀ n, (∀ j, j < n → f j = g j) → is_m f n = is_m g n
  | 0, _ => rfl
  | n + 1, h => by rw [is_s, is_s, is_c n (fun j hj => h j (by omega)), h n (by omega)]
theorem is_u {f g : Nat → Int64} {k : Nat} (h : ∀ j, j ≠ k → g j = f j) : ∀ n, is_m g n = is_m f n + (if k < n then g k - f k else 0)
  | 0 => by rw [if_neg (by omega)]; rfl
  | n + 1 => by
    rw [is_s, is_s, is_u h n]
    by_cases c : k < n
    · rw [if_pos c, if_pos (by omega), h n (by omega)]; grind
    · by_cases d : k = n
      · rw [if_neg c, if_pos (by omega), d]; grind
      · rw [if_neg c, if_neg (by omega), h n (by omega)]; grind
/-! counts -/
def cn_t (p : Nat → Bool) : Nat → Nat
  | 0 => 0
  | n + 1 => cn_t p n + (if p n = true then 1 else 0)
theorem cn_s (p : Nat → Bool) (n : Nat) : cn_t p (n + 1) = cn_t p n + (if p n = true then 1 else 0) := rfl
theorem cn_c {p q : Nat → Bool} : ∀ n, (∀ j, j < n → p j = q j) → cn_t p n = cn_t q n
  | 0, _ => rfl
  | n + 1, h => by rw [cn_s, cn_s, cn_c n (fun j hj => h j (by omega)), h n (by omega)]
theorem cn_m {p q : Nat → Bool} : ∀ n, (∀ j, j < n → p j = true → q j = true) → cn_t p n ≤ cn_t q n
  | 0, _ => Nat.le_refl _
  | n + 1, h => by
    rw [cn_s, cn_s]
    have a := cn_m n (fun j hj => h j (by omega))
    by_cases c : p n = true
    · rw [if_pos c, if_pos (h n (by omega) c)]; omega
    · rw [if_neg c]; omega
theorem cn_z {p : Nat → Bool} : ∀ n, (∀ j, j < n → p j = false) → cn_t p n = 0
  | 0, _ => rfl
  | n + 1, h => by rw [cn_s, cn_z n (fun j hj => h j (by omega)), h n (by omega)]; rfl
theorem cn_le (p : Nat → Bool) : ∀ n, cn_t p n ≤ n
  | 0 => Nat.le_refl _
  | n + 1 => by rw [cn_s]; have := cn_le p n; by_cases c : p n = true <;> simp only [c] <;> simp <;> omega
/-- p is q and one place more -/
theorem cn_u {p q : Nat → Bool} {k : Nat} (hq : q k = false) (hp : p k = true) (h : ∀ j, j ≠ k → p j = q j) : ∀ n, cn_t p n = cn_t q n + (if k < n then 1 else 0)
  | 0 => rfl
  | n + 1 => by
    rw [cn_s, cn_s, cn_u hq hp h n]
    by_cases c : k = n
    · subst c; rw [hp, hq, if_neg (c := k < k) (by omega), if_pos (c := k < k + 1) (by omega)]; rfl
    · rw [h n (fun z => c z.symm)]
      by_cases d : k < n
      · rw [if_pos d, if_pos (c := k < n + 1) (by omega)]; omega
      · rw [if_neg d, if_neg (c := k < n + 1) (by omega)]; omega
theorem cn_h (p : Nat → Bool) : ∀ n, cn_t p (n + 1) = (if p 0 = true then 1 else 0) + cn_t (fun j => p (j + 1)) n
  | 0 => by rw [cn_s]; simp [cn_t]
  | n + 1 => by rw [cn_s, cn_h p n, cn_s]; omega
/-! the last entry that matches -/
def la_v {α : Type} (d : α) (p : Nat → Bool) (v : Nat → α) : Nat → α
  | 0 => d
  | n + 1 => if p n = true then v n else la_v d p v n
theorem la_t {α : Type} {d : α} {p : Nat → Bool} {v : Nat → α} {n : Nat} (h : p n = true) : la_v d p v (n + 1) = v n := if_pos h
theorem la_f {α : Type} {d : α} {p : Nat → Bool} {v : Nat → α} {n : Nat} (h : p n = false) : la_v d p v (n + 1) = la_v d p v n := if_neg (by rw [h]; decide)
theorem la_c {α : Type} {d e : α} {p q : Nat → Bool} {v w : Nat → α} (hd : d = e) : ∀ n, (∀ i, i < n → p i = q i) → (∀ i, i < n → q i = true → v i = w i) → la_v d p v n = la_v e q w n
  | 0, _, _ => hd
  | n + 1, h, g => by
    have a := la_c hd n (fun i hi => h i (by omega)) (fun i hi => g i (by omega))
    have b := h n (by omega)
    cases c : q n
    · rw [la_f (b.trans c), la_f c]; exact a
    · rw [la_t (b.trans c), la_t c]; exact g n (by omega) c
theorem la_0 {α : Type} {d : α} {p : Nat → Bool} {v : Nat → α} : ∀ n, (∀ i, i < n → p i = false) → la_v d p v n = d
  | 0, _ => rfl
  | n + 1, h => by rw [la_f (h n (by omega))]; exact la_0 n (fun i hi => h i (by omega))
theorem la_x {α : Type} (d : α) (p : Nat → Bool) (v : Nat → α) (a : Nat) : ∀ b, la_v d p v (a + b) = la_v (la_v d p v a) (fun i => p (a + i)) (fun i => v (a + i)) b
  | 0 => rfl
  | b + 1 => by
    show la_v d p v (a + b + 1) = _
    cases c : p (a + b)
    · rw [la_f c, la_f (p := fun i => p (a + i)) c]; exact la_x d p v a b
    · rw [la_t c, la_t (p := fun i => p (a + i)) c]
def ov_l (t v : Int32) : Option Int32 := if t = 0 then none else some v
theorem ov_0 {t v : Int32} (h : t = 0) : ov_l t v = none := if_pos h
theorem ov_1 {t v : Int32} (h : ¬ t = 0) : ov_l t v = some v := if_neg h
def en_c (o : Option Int32) : Int64 := match o with
  | none => 1000000000000
  | some v => v.toInt64
def wg_t (o : Option Int32) : Int64 := match o with
  | none => 0
  | some v => v.toInt64
theorem en_s (v : Int32) : ¬ v.toInt64 = 1000000000000 := by
  intro h
  have a := congrArg Int64.toInt h
  rw [Int32.toInt_toInt64, show (1000000000000 : Int64).toInt = 1000000000000 from by decide] at a
  have := v.toInt_lt
  omega
theorem en_a {o : Option Int32} : en_c o = 1000000000000 ↔ o = none := by
  cases o with
  | none => exact ⟨fun _ => rfl, fun _ => rfl⟩
  | some v => exact ⟨fun h => absurd h (en_s v), fun h => nomatch h⟩
end
section
/-! the component's small helpers -/
def ok_4 (a : Nat → Int32) (x : Int32) : Prop := ∃ s, s < 4 ∧ x = nI s ∧ a s ≠ 0
def ok_k (x : Int32) : Prop := ∃ k, k < 64 ∧ x = nI k
theorem xw_bit {post : Int64 → Prop} {k : Nat} (h : post (mb_t k)) : wpX_bit post (nI k) := h
theorem xw_bad_t {post : Int32 → Prop} {k N : Nat} (h : k < N) (hN : N < 2 ^ 31) (hp : post 0) : wpX_bad post (nI k) (nI N) := by
  have e : (0 : Int32) ||| 0 = 0 := by decide
  refine br_t (nI_pos' (by omega)) (br_t (nI_lt h hN) ?_)
  rw [e]
  exact ⟨rfl, hp⟩
theorem xw_bad_f {post : Int32 → Prop} {x : Int32} {N : Nat} (hN : N < 2 ^ 31) (h : ¬ ∃ k, k < N ∧ x = nI k) (hp : post 1) : wpX_bad post x (nI N) := by
  have e0 : (1 : Int32) ||| 0 = 1 := by decide
  have e1 : (1 : Int32) ||| 1 = 1 := by decide
  have e2 : (0 : Int32) ||| 1 = 1 := by decide
  rcases pk_ix x hN with c | c | c
  · refine br_f (Int32.not_le.mpr c) (br_c (fun _ => ?_) (fun _ => ?_))
    · rw [e0]; exact ⟨rfl, hp⟩
    · rw [e1]; exact ⟨rfl, hp⟩
  · refine br_t (Int32.le_trans (nI_pos' hN) c) (br_f (Int32.not_lt.mpr c) ?_)
    rw [e2]; exact ⟨rfl, hp⟩
  · exact absurd c h
theorem xw_key_t {post : Int32 → Prop} {k : Nat} (h : k < 64) (hp : post 0) : wpX_bad post (nI k) 64 := xw_bad_t (N := 64) h (by decide) hp
theorem xw_key_f {post : Int32 → Prop} {x : Int32} (h : ¬ ok_k x) (hp : post 1) : wpX_bad post x 64 := xw_bad_f (N := 64) (by decide) h hp
theorem xw_low_go {post : Int32 → Prop} : ∀ e n m a : Nat, e < n → e ≤ 6 → m < 2 ^ 64 → m % 2 ^ (2 ^ e) ≠ 0 → (∀ r, m.testBit r = true → (∀ i, i < r → m.testBit i = false) → post (nI (a + r))) → wX_lowest_18 post n (lN m) (nI a) (nI (2 ^ e / 2)) := by
  intro e
  induction e with
  | zero =>
    intro n m a hn _ hm h0 hp
    obtain ⟨n, rfl⟩ : ∃ k, n = k + 1 := ⟨n - 1, by omega⟩
    have z : nI (2 ^ 0 / 2) ≤ 0 := by decide
    have t : m.testBit 0 = true := by
      rw [Nat.testBit_zero]
      have h1 : m % 2 ≠ 0 := h0
      exact decide_eq_true (by omega)
    exact br_t z (hp 0 t (fun i hi => absurd hi (by omega)))
  | succ e ih =>
    intro n m a hn he hm h0 hp
    obtain ⟨n, rfl⟩ : ∃ k, n = k + 1 := ⟨n - 1, by omega⟩
    have hh : 2 ^ (e + 1) / 2 = 2 ^ e := by rw [Nat.pow_succ]; omega
    have hq : 2 ^ (2 ^ (e + 1)) = 2 ^ (2 ^ e) * 2 ^ (2 ^ e) := by rw [← Nat.pow_add, Nat.pow_succ]; congr 1; omega
    rw [hh]
    rw [hq] at h0
    have hs : 2 ^ e ≤ 32 := Nat.pow_le_pow_right (n := 2) (j := 5) (by decide) (by omega)
    have hs0 : 0 < 2 ^ e := Nat.two_pow_pos e
    generalize hgs : 2 ^ e = s at *
    have hp2 : 0 < 2 ^ s := Nat.two_pow_pos s
    have hp3 : 2 ^ s ≤ 2 ^ 32 := Nat.pow_le_pow_right (by decide) hs
    have em : (lN m &&& (((1 : Int64) <<< ((nI s).toInt64 &&& 63)) - 1)) = lN (m % 2 ^ s) := by
      have e1 : ((1 : Int64) <<< ((nI s).toInt64 &&& 63)) = lN (2 ^ s) := mb_te (by omega)
      have e2 : lN (2 ^ s) - 1 = lN (2 ^ s - 1) := lN_sub (b := 1) hp2
      rw [e1, e2, wb_mask hm (by omega)]
    have ez : lN (m % 2 ^ s) = 0 ↔ m % 2 ^ s = 0 := pk_lEQ (b := 0) (by have := Nat.mod_lt m hp2; omega) (by decide)
    have e5 : nI s >>> ((1 : Int32) &&& 31) = nI (s / 2) := pk_shrN (by omega) _ 1 (by decide)
    refine br_f (nI_nle hs0 (by omega)) ?_
    by_cases c : m % 2 ^ s = 0
    · have c2 : m / 2 ^ s % 2 ^ s ≠ 0 := by
        intro z
        rw [Nat.mod_mul, c, z] at h0
        exact h0 (by omega)
      refine br_t (by rw [em]; exact ez.mpr c) (nm_r (wb_shr hm (by omega)) (nm_r (nI_add a s) (nm_r e5 ?_)))
      refine ih n (m / 2 ^ s) (a + s) (by omega) (by omega) (Nat.lt_of_le_of_lt (Nat.div_le_self _ _) hm) c2 ?_
      intro r hr hl
      rw [Nat.testBit_div_two_pow] at hr
      have g := hp (r + s) hr ?_
      · rw [show a + s + r = a + (r + s) by omega]; exact g
      · intro i hi
        by_cases d : i < s
        · have t := Nat.testBit_mod_two_pow m s i
          rw [c, Nat.zero_testBit, decide_eq_true d, Bool.true_and] at t
          exact t.symm
        · have t := hl (i - s) (by omega)
          rw [Nat.testBit_div_two_pow, show i - s + s = i by omega] at t
          exact t
    · refine br_f (by rw [em]; exact fun z => c (ez.mp z)) (nm_r e5 ?_)
      exact ih n m a (by omega) (by omega) hm c hp
theorem xw_lowest {post : Int32 → Prop} {x : Int64} (h : x ≠ 0) (hp : ∀ k, k < 64 → mb_b x k = true → (∀ j, j < k → mb_b x j = false) → post (nI k)) : wpX_lowest post x := by
  obtain ⟨X, hX, rfl⟩ := wb_of x
  refine br_f h ⟨7, ?_⟩
  have g := xw_low_go (post := post) 6 7 X 0 (by decide) (by decide) hX ?_ ?_
  · exact g
  · intro z
    have : X % 2 ^ 64 = 0 := z
    rw [Nat.mod_eq_of_lt hX] at this
    exact h (by rw [this]; rfl)
  · intro r hr hl
    have r64 : r < 64 := by
      apply Decidable.byContradiction
      intro z
      rw [Nat.testBit_lt_two_pow (Nat.lt_of_lt_of_le hX (Nat.pow_le_pow_right (by decide) (by omega)))] at hr
      exact absurd hr (by decide)
    rw [Nat.zero_add]
    refine hp r r64 (by rw [mb_lN, hr, decide_eq_true r64]; rfl) ?_
    intro j hj
    rw [mb_lN, hl j hj, Bool.and_false]
theorem xw_low64 {post : Int32 → Prop} {x : Int64} (h : x = 0) (hp : post 64) : wpX_lowest post x := br_t h hp
theorem mb_all : (-1 : Int64) = lN (2 ^ 64 - 1) := by decide
theorem mb_span {l h j : Nat} (hl : l ≤ h) (hh : h < 64) (hj : j < 64) : mb_b ((((-1 : Int64).toUInt64 >>> ((63 - (nI h - nI l)).toInt64.toUInt64 &&& Int64.toUInt64 63)).toInt64) <<< ((nI l).toInt64 &&& 63)) j = (decide (l ≤ j) && decide (j ≤ h)) := by
  have e1 : (63 : Int32) - (nI h - nI l) = nI (63 - (h - l)) := by
    rw [pk_sub hl]; exact pk_sub (a := 63) (by omega)
  rw [e1, mb_all, wb_shr (by decide) (by omega), wb_shl _ (by omega), mb_lN, decide_eq_true hj, Bool.true_and, Nat.testBit_mul_two_pow, Nat.testBit_div_two_pow, Nat.testBit_two_pow_sub_one]
  by_cases c : l ≤ j
  · rw [decide_eq_true c, Bool.true_and, Bool.true_and]
    by_cases d : j ≤ h
    · rw [decide_eq_true d]; exact decide_eq_true (by omega)
    · rw [decide_eq_false d]; exact decide_eq_false (by omega)
  · rw [decide_eq_false c]; rfl
theorem mb_from {l j : Nat} (hl : l < 64) (hj : j < 64) : mb_b ((-1 : Int64) <<< ((nI l).toInt64 &&& 63)) j = decide (l ≤ j) := by
  rw [mb_all, wb_shl _ hl, mb_lN, decide_eq_true hj, Bool.true_and, Nat.testBit_mul_two_pow, Nat.testBit_two_pow_sub_one]
  by_cases c : l ≤ j
  · rw [decide_eq_true c, Bool.true_and]; exact decide_eq_true (by omega)
  · rw [decide_eq_false c]; rfl
theorem xw_span {post : Int64 → Prop} {l h : Nat} (hl : l ≤ h) (hh : h < 64) (hp : ∀ x, (∀ j, j < 64 → mb_b x j = (decide (l ≤ j) && decide (j ≤ h))) → post x) : wpX_span post (nI l) (nI h) :=
  br_t (nI_le hl (by omega)) (hp _ (fun _ hj => mb_span hl hh hj))
/-! the place of the lowest bit of a number below 65 -/
def lb_t (i : Nat) : Nat := (nI i &&& -(nI i)).toNatClampNeg
theorem lb_1 : ∀ i, i < 65 → 0 < i → (nI i &&& -(nI i)) = nI (lb_t i) ∧ 0 < lb_t i ∧ lb_t i ≤ i := by decide +kernel
theorem lb_2 : ∀ k, k < 65 → 0 < k → ∀ i, i < 65 → k < i → i < k + lb_t k → k ≤ i - lb_t i := by decide +kernel
theorem lb_3 : ∀ k, k < 65 → 0 < k → k + lb_t k < 65 → (k + lb_t k) - lb_t (k + lb_t k) ≤ k - lb_t k := by decide +kernel
section
variable {f_group : Int32} {f_present : Int64} {f_freeVersion : Int32} {f_freeCount : Int32} {f_tracked : Int32} {f_logLength : Int32} {f_baseMask : Int64} {f_commits : Int32} {f_durable : Int32} {a_newest : Nat → Int32} {a_verValue : Nat → Int32} {a_verThere : Nat → Int32} {a_verStamp : Nat → Int32} {a_verOlder : Nat → Int32} {a_fenwick : Nat → Int64} {a_open : Nat → Int32} {a_serial : Nat → Int32} {a_start : Nat → Int32} {a_readMask : Nat → Int64} {a_writeMask : Nat → Int64} {a_dirty : Nat → Int64} {a_writes : Nat → Int32} {a_writeKey : Nat → Int32} {a_writeValue : Nat → Int32} {a_writeThere : Nat → Int32} {a_writeBefore : Nat → Int32} {a_lastWrite : Nat → Int32} {a_saves : Nat → Int32} {a_saveAt : Nat → Int32} {a_trackNumber : Nat → Int32} {a_trackRead : Nat → Int64} {a_trackWrite : Nat → Int64} {a_trackIn : Nat → Int32} {a_trackOut : Nat → Int32} {a_logKey : Nat → Int32} {a_logValue : Nat → Int32} {a_logThere : Nat → Int32} {a_logStamp : Nat → Int32} {a_baseValue : Nat → Int32}
theorem xw_idle_t {post : Int32 → Prop} {s : Nat} (hs : s < 4) (ho : a_open s ≠ 0) (hp : post 0) : wpX_idle post (f_group, f_present, f_freeVersion, f_freeCount, f_tracked, f_logLength, f_baseMask, f_commits, f_durable, a_newest, a_verValue, a_verThere, a_verStamp, a_verOlder, a_fenwick, a_open, a_serial, a_start, a_readMask, a_writeMask, a_dirty, a_writes, a_writeKey, a_writeValue, a_writeThere, a_writeBefore, a_lastWrite, a_saves, a_saveAt, a_trackNumber, a_trackRead, a_trackWrite, a_trackIn, a_trackOut, a_logKey, a_logValue, a_logThere, a_logStamp, a_baseValue) (nI s) := by
  unfold wpX_idle
  refine xw_bad_t (N := 4) hs (by decide) (br_t rfl ⟨vp_in_nI hs (by decide), br_f ?_ hp⟩)
  rw [nI_clamp (by omega)]
  exact ho
theorem xw_idle_f {post : Int32 → Prop} {x : Int32} (h : ¬ ok_4 a_open x) (hp : post 1) : wpX_idle post (f_group, f_present, f_freeVersion, f_freeCount, f_tracked, f_logLength, f_baseMask, f_commits, f_durable, a_newest, a_verValue, a_verThere, a_verStamp, a_verOlder, a_fenwick, a_open, a_serial, a_start, a_readMask, a_writeMask, a_dirty, a_writes, a_writeKey, a_writeValue, a_writeThere, a_writeBefore, a_lastWrite, a_saves, a_saveAt, a_trackNumber, a_trackRead, a_trackWrite, a_trackIn, a_trackOut, a_logKey, a_logValue, a_logThere, a_logStamp, a_baseValue) x := by
  unfold wpX_idle
  by_cases c : ∃ k, k < 4 ∧ x = nI k
  · obtain ⟨s, hs, rfl⟩ := c
    refine xw_bad_t (N := 4) hs (by decide) (br_t rfl ⟨vp_in_nI hs (by decide), br_t ?_ hp⟩)
    rw [nI_clamp (by omega)]
    exact Decidable.byContradiction (fun z => h ⟨s, hs, rfl, z⟩)
  · exact xw_bad_f (N := 4) (by decide) c (br_f (by decide) hp)
end
end
section
/-! pure: own writes, the history, arrows, copies -/
def ow_n (K : Nat → Nat) (s : Nat) : Nat → Nat → Nat
  | 0, _ => 0
  | n + 1, k => if K (12 * s + n) = k then 12 * s + n + 1 else ow_n K s n k
theorem ow_t {K : Nat → Nat} {s n k : Nat} (h : K (12 * s + n) = k) : ow_n K s (n + 1) k = 12 * s + n + 1 := if_pos h
theorem ow_f {K : Nat → Nat} {s n k : Nat} (h : K (12 * s + n) ≠ k) : ow_n K s (n + 1) k = ow_n K s n k := if_neg h
theorem ow_i {K : Nat → Nat} {s k : Nat} : ∀ n, 0 < ow_n K s n k ↔ ∃ i, i < n ∧ K (12 * s + i) = k
  | 0 => ⟨fun h => absurd h (by simp [ow_n]), fun ⟨i, h, _⟩ => absurd h (by omega)⟩
  | n + 1 => by
    by_cases c : K (12 * s + n) = k
    · rw [ow_t c]; exact ⟨fun _ => ⟨n, by omega, c⟩, fun _ => by omega⟩
    · rw [ow_f c, ow_i n]
      constructor
      · rintro ⟨i, h, e⟩; exact ⟨i, by omega, e⟩
      · rintro ⟨i, h, e⟩
        by_cases d : i = n
        · rw [d] at e; exact absurd e c
        · exact ⟨i, by omega, e⟩
theorem ow_le {K : Nat → Nat} {s k : Nat} : ∀ n, ow_n K s n k ≤ 12 * s + n
  | 0 => Nat.zero_le _
  | n + 1 => by
    by_cases c : K (12 * s + n) = k
    · rw [ow_t c]; omega
    · rw [ow_f c]; have := ow_le (K := K) (s := s) (k := k) n; omega
theorem ow_c {K L : Nat → Nat} {s k : Nat} : ∀ n, (∀ i, i < n → K (12 * s + i) = L (12 * s + i)) → ow_n K s n k = ow_n L s n k
  | 0, _ => rfl
  | n + 1, h => by
    have a := ow_c (k := k) n (fun i hi => h i (by omega))
    have b := h n (by omega)
    by_cases c : L (12 * s + n) = k
    · rw [ow_t c, ow_t (b.trans c)]
    · rw [ow_f c, ow_f (by rw [b]; exact c), a]
/-- the place of the last own write is an own write of that key, and what is seen is its value -/
def sn_v (K : Nat → Nat) (wv wt : Nat → Int32) (s n k : Nat) (d : Option Int32) : Option Int32 :=
  la_v d (fun i => decide (K (12 * s + i) = k)) (fun i => ov_l (wt (12 * s + i)) (wv (12 * s + i))) n
theorem sn_0 {K : Nat → Nat} {wv wt : Nat → Int32} {s k : Nat} {d : Option Int32} : ∀ n, ow_n K s n k = 0 → sn_v K wv wt s n k d = d
  | 0, _ => rfl
  | n + 1, h => by
    by_cases c : K (12 * s + n) = k
    · rw [ow_t c] at h; omega
    · rw [ow_f c] at h
      exact (la_f (decide_eq_false c)).trans (sn_0 n h)
theorem sn_p {K : Nat → Nat} {wv wt : Nat → Int32} {s k : Nat} {d : Option Int32} : ∀ n, 0 < ow_n K s n k → sn_v K wv wt s n k d = ov_l (wt (ow_n K s n k - 1)) (wv (ow_n K s n k - 1))
  | 0, h => absurd h (by simp [ow_n])
  | n + 1, h => by
    by_cases c : K (12 * s + n) = k
    · rw [ow_t c]; exact la_t (decide_eq_true c)
    · rw [ow_f c] at h ⊢
      exact (la_f (decide_eq_false c)).trans (sn_p n h)
/-- the set of the keys of the first n writes -/
def ws_t (K : Nat → Nat) (s : Nat) : Nat → Int64
  | 0 => 0
  | n + 1 => ws_t K s n ||| mb_t (K (12 * s + n))
theorem ws_b {K : Nat → Nat} {s : Nat} (hK : ∀ j, K j < 64) {k : Nat} : ∀ n, mb_b (ws_t K s n) k = decide (0 < ow_n K s n k)
  | 0 => mb_0 k
  | n + 1 => by
    show mb_b (ws_t K s n ||| mb_t (K (12 * s + n))) k = _
    rw [mb_or, ws_b hK n, mb_tb (hK _)]
    by_cases c : K (12 * s + n) = k
    · rw [ow_t c, decide_eq_true c.symm, Bool.or_true]; exact (decide_eq_true (by omega)).symm
    · rw [ow_f c, decide_eq_false (p := k = K (12 * s + n)) (fun z => c z.symm), Bool.or_false]
/-- how many keys the first n writes have -/
theorem ow_cn (K : Nat → Nat) (s : Nat) : ∀ n, cn_t (fun k => decide (0 < ow_n K s n k)) 64 ≤ n
  | 0 => by rw [cn_z]; · exact Nat.le_refl _
            · intro j _; exact decide_eq_false (by simp [ow_n])
  | n + 1 => by
    have a := ow_cn K s n
    by_cases c : 0 < ow_n K s n (K (12 * s + n))
    · have : cn_t (fun k => decide (0 < ow_n K s (n + 1) k)) 64 = cn_t (fun k => decide (0 < ow_n K s n k)) 64 := by
        apply cn_c
        intro j _
        by_cases d : K (12 * s + n) = j
        · rw [ow_t d, ← d, decide_eq_true c]; exact decide_eq_true (by omega)
        · rw [ow_f d]
      omega
    · have b := cn_u (p := fun k => decide (0 < ow_n K s (n + 1) k)) (q := fun k => decide (0 < ow_n K s n k)) (k := K (12 * s + n)) (decide_eq_false c) (by show decide _ = true; rw [ow_t rfl]; exact decide_eq_true (by omega)) (by
        intro j hj
        show decide _ = decide _
        rw [ow_f (fun z => hj z.symm)]) 64
      rw [b]
      by_cases d : K (12 * s + n) < 64
      · rw [if_pos d]; omega
      · rw [if_neg d]; omega
/-- the row after commit m, by the history -/
def af_t (hc hk : Nat → Nat) (hv ht : Nat → Int32) (m k n : Nat) : Option Int32 :=
  la_v none (fun i => decide (hc i ≤ m) && decide (hk i = k)) (fun i => ov_l (ht i) (hv i)) n
def hy_r (f_history : Int32) (a_hCommit a_hKey : Nat → Int32) (hc hk : Nat → Nat) (H : Nat) : Prop :=
  f_history = nI H ∧ H ≤ 520 ∧ ∀ j, a_hCommit j = nI (hc j) ∧ hc j < 2 ^ 31 ∧ a_hKey j = nI (hk j) ∧ hk j < 64
/-- a read-write arrow between two commits -/
def ar_w (kn : Nat → Int32) (cs : Nat → Nat) (cr cw : Nat → Int64) (i j : Nat) : Prop :=
  i ≠ j ∧ kn i ≠ 0 ∧ kn j ≠ 0 ∧ cs i < j ∧ cs j < i ∧ (cr i &&& cw j) ≠ 0
def ar_in (kn : Nat → Int32) (cs : Nat → Nat) (cr cw : Nat → Int64) (N m : Nat) : Prop := ∃ i, 1 ≤ i ∧ i ≤ N ∧ ar_w kn cs cr cw i m
def ar_out (kn : Nat → Int32) (cs : Nat → Nat) (cr cw : Nat → Int64) (N m : Nat) : Prop := ∃ i, 1 ≤ i ∧ i ≤ N ∧ ar_w kn cs cr cw m i
def ar_d (kn : Nat → Int32) (cs : Nat → Nat) (cr cw : Nat → Int64) (N : Nat) : Prop :=
  ∃ m, 1 ≤ m ∧ m ≤ N ∧ (m = N ∨ ar_w kn cs cr cw m N ∨ ar_w kn cs cr cw N m) ∧ ar_in kn cs cr cw N m ∧ ar_out kn cs cr cw N m
/-- some strict session but b that runs began before commit m -/
def li_v (op sr : Nat → Int32) (st : Nat → Nat) (b m : Nat) : Prop := ∃ s, s < 4 ∧ s ≠ b ∧ op s ≠ 0 ∧ sr s ≠ 0 ∧ st s < m
/-- n entries written at H and behind -/
def cp_y (a : Nat → Int32) (H : Nat) (v : Nat → Int32) : Nat → Nat → Int32
  | 0 => a
  | n + 1 => upd (cp_y a H v n) (H + n) (v n)
theorem cp_o {a : Nat → Int32} {H : Nat} {v : Nat → Int32} {j : Nat} : ∀ n, (j < H ∨ H + n ≤ j) → cp_y a H v n j = a j
  | 0, _ => rfl
  | n + 1, h => (pk_un (by omega)).trans (cp_o n (by omega))
theorem cp_i {a : Nat → Int32} {H : Nat} {v : Nat → Int32} {i : Nat} : ∀ n, i < n → cp_y a H v n (H + i) = v i
  | 0, h => absurd h (by omega)
  | n + 1, h => by
    by_cases c : i = n
    · rw [c]; exact pk_us
    · exact (pk_un (by omega)).trans (cp_i n (by omega))
theorem ix_12 (s n : Nat) : nI s * 12 + nI n = nI (12 * s + n) := by
  have e : nI s * 12 = nI (s * 12) := pk_mul s 12
  rw [e, nI_add, Nat.mul_comm]
theorem ix_12' (s n : Nat) : 12 * nI s + nI n = nI (12 * s + n) := by
  have e : 12 * nI s = nI (12 * s) := pk_mul 12 s
  rw [e, nI_add]
theorem ix_3 (s n : Nat) : nI s * 3 + nI n = nI (3 * s + n) := by
  have e : nI s * 3 = nI (s * 3) := pk_mul s 3
  rw [e, nI_add, Nat.mul_comm]
theorem ix_3' (s n : Nat) : 3 * nI s + nI n = nI (3 * s + n) := by
  have e : 3 * nI s = nI (3 * s) := pk_mul 3 s
  rw [e, nI_add]
theorem ix_64 (s n : Nat) : 64 * nI s + nI n = nI (64 * s + n) := by
  have e : 64 * nI s = nI (64 * s) := pk_mul 64 s
  rw [e, nI_add]
theorem ix_120 (s : Nat) : nI s * 12 = nI (12 * s + 0) := by
  have e : nI s * 12 = nI (s * 12) := pk_mul s 12
  rw [e, Nat.mul_comm]; rfl
end
section
/-! the reference's helpers -/
section
variable {f_limit : Int32} {f_commits : Int32} {f_durable : Int32} {f_history : Int32} {a_hCommit : Nat → Int32} {a_hKey : Nat → Int32} {a_hValue : Nat → Int32} {a_hThere : Nat → Int32} {a_cStart : Nat → Int32} {a_cRead : Nat → Int64} {a_cWrite : Nat → Int64} {a_known : Nat → Int32} {a_open : Nat → Int32} {a_strict : Nat → Int32} {a_start : Nat → Int32} {a_readSet : Nat → Int64} {a_sCount : Nat → Int32} {a_saves : Nat → Int32} {a_sKey : Nat → Int32} {a_sValue : Nat → Int32} {a_sThere : Nat → Int32} {a_saved : Nat → Int32}
theorem yw_isOpen_t {post : Int32 → Prop} {s : Nat} (hs : s < 4) (ho : a_open s ≠ 0) (hp : post 1) : wpY_isOpen post (f_limit, f_commits, f_durable, f_history, a_hCommit, a_hKey, a_hValue, a_hThere, a_cStart, a_cRead, a_cWrite, a_known, a_open, a_strict, a_start, a_readSet, a_sCount, a_saves, a_sKey, a_sValue, a_sThere, a_saved) (nI s) := by
  unfold wpY_isOpen
  refine br_f (nI_pos (by omega)) (br_f (nI_ge (b := 4) hs (by decide)) ⟨vp_in_nI hs (by decide), br_f ?_ hp⟩)
  rw [nI_clamp (by omega)]
  exact ho
theorem yw_isOpen_f {post : Int32 → Prop} {x : Int32} (h : ¬ ok_4 a_open x) (hp : post 0) : wpY_isOpen post (f_limit, f_commits, f_durable, f_history, a_hCommit, a_hKey, a_hValue, a_hThere, a_cStart, a_cRead, a_cWrite, a_known, a_open, a_strict, a_start, a_readSet, a_sCount, a_saves, a_sKey, a_sValue, a_sThere, a_saved) x := by
  unfold wpY_isOpen
  rcases pk_ix x (n := 4) (by decide) with c | c | c
  · exact br_t c hp
  · exact br_f (Int32.not_lt.mpr (Int32.le_trans (nI_pos' (n := 4) (by decide)) c)) (br_t c hp)
  · obtain ⟨s, hs, rfl⟩ := c
    refine br_f (nI_pos (by omega)) (br_f (nI_ge (b := 4) hs (by decide)) ⟨vp_in_nI hs (by decide), br_t ?_ hp⟩)
    rw [nI_clamp (by omega)]
    exact Decidable.byContradiction (fun z => h ⟨s, hs, rfl, z⟩)
theorem yw_isKey_t {post : Int32 → Prop} {k : Nat} (hk : k < 64) (hp : post 1) : wpY_isKey post (f_limit, f_commits, f_durable, f_history, a_hCommit, a_hKey, a_hValue, a_hThere, a_cStart, a_cRead, a_cWrite, a_known, a_open, a_strict, a_start, a_readSet, a_sCount, a_saves, a_sKey, a_sValue, a_sThere, a_saved) (nI k) := by
  unfold wpY_isKey
  exact br_f (nI_pos (by omega)) (br_f (nI_ge (b := 64) hk (by decide)) hp)
theorem yw_isKey_f {post : Int32 → Prop} {x : Int32} (h : ¬ ok_k x) (hp : post 0) : wpY_isKey post (f_limit, f_commits, f_durable, f_history, a_hCommit, a_hKey, a_hValue, a_hThere, a_cStart, a_cRead, a_cWrite, a_known, a_open, a_strict, a_start, a_readSet, a_sCount, a_saves, a_sKey, a_sValue, a_sThere, a_saved) x := by
  unfold wpY_isKey
  rcases pk_ix x (n := 64) (by decide) with c | c | c
  · exact br_t c hp
  · exact br_f (Int32.not_lt.mpr (Int32.le_trans (nI_pos' (n := 64) (by decide)) c)) (br_t c hp)
  · exact absurd c h
theorem yw_after_go {post : Int64 → Prop} {hc hk : Nat → Nat} {H m k : Nat} (R : hy_r f_history a_hCommit a_hKey hc hk H) (hm : m < 2 ^ 31) (hk64 : k < 64) (hp : post (en_c (af_t hc hk a_hValue a_hThere m k H))) : ∀ d i n, i + d = H → d < n → wY_after_7 post (nI m) (nI k) f_limit f_commits f_durable f_history a_hCommit a_hKey a_hValue a_hThere a_cStart a_cRead a_cWrite a_known a_open a_strict a_start a_readSet a_sCount a_saves a_sKey a_sValue a_sThere a_saved n (en_c (af_t hc hk a_hValue a_hThere m k i)) (nI i) := by
  obtain ⟨rfl, hH, hR⟩ := R
  intro d
  induction d with
  | zero =>
    intro i n hi hn
    obtain ⟨n, rfl⟩ : ∃ q, n = q + 1 := ⟨n - 1, by omega⟩
    obtain rfl : i = H := by omega
    exact br_t (nI_le (Nat.le_refl _) (by omega)) hp
  | succ d ih =>
    intro i n hi hn
    obtain ⟨n, rfl⟩ : ∃ q, n = q + 1 := ⟨n - 1, by omega⟩
    obtain ⟨c1, c2, c3, c4⟩ := hR i
    have IH := ih (i + 1) n (by omega) (by omega)
    have hin : vp_in (nI i) 520 := vp_in_nI (by omega) (by decide)
    have r1 : a_hCommit (nI i).toNatClampNeg = nI (hc i) := by rw [nI_clamp (by omega)]; exact c1
    have r2 : a_hKey (nI i).toNatClampNeg = nI (hk i) := by rw [nI_clamp (by omega)]; exact c3
    have r3 : a_hThere (nI i).toNatClampNeg = a_hThere i := rd_a (by omega)
    have r4 : a_hValue (nI i).toNatClampNeg = a_hValue i := rd_a (by omega)
    refine br_f (nI_ge (by omega) (by omega)) ⟨hin, pk_lt m (hc i) (fun h => nm_r (nI_1 i) ?_) (fun h => ⟨hin, pk_eq (hk i) k (fun e => ⟨hin, br_c (fun t => nm_r (nI_1 i) ?_) (fun t => ⟨hin, nm_r (e' := (a_hValue i).toInt64) (by rw [r4]) (nm_r (nI_1 i) ?_)⟩)⟩) (fun e => nm_r (nI_1 i) ?_) r2 rfl⟩) rfl r1⟩
    · have e : af_t hc hk a_hValue a_hThere m k (i + 1) = af_t hc hk a_hValue a_hThere m k i := la_f (by show (decide (hc i ≤ m) && decide (hk i = k)) = false; rw [decide_eq_false (by omega)]; rfl)
      rw [e] at IH; exact IH
    · have e2 : af_t hc hk a_hValue a_hThere m k (i + 1) = ov_l (a_hThere i) (a_hValue i) := la_t (by show (decide (hc i ≤ m) && decide (hk i = k)) = true; rw [decide_eq_true h, decide_eq_true e]; rfl)
      rw [e2, ov_0 (r3.symm.trans t)] at IH; exact IH
    · have e2 : af_t hc hk a_hValue a_hThere m k (i + 1) = ov_l (a_hThere i) (a_hValue i) := la_t (by show (decide (hc i ≤ m) && decide (hk i = k)) = true; rw [decide_eq_true h, decide_eq_true e]; rfl)
      rw [e2, ov_1 (fun z => t (r3.trans z))] at IH; exact IH
    · have e2 : af_t hc hk a_hValue a_hThere m k (i + 1) = af_t hc hk a_hValue a_hThere m k i := la_f (by show (decide (hc i ≤ m) && decide (hk i = k)) = false; rw [decide_eq_false e, Bool.and_false])
      rw [e2] at IH; exact IH
theorem yw_after {post : Int64 → Prop} {hc hk : Nat → Nat} {H m k : Nat} (R : hy_r f_history a_hCommit a_hKey hc hk H) (hm : m < 2 ^ 31) (hk64 : k < 64) (hp : post (en_c (af_t hc hk a_hValue a_hThere m k H))) : wpY_after post (f_limit, f_commits, f_durable, f_history, a_hCommit, a_hKey, a_hValue, a_hThere, a_cStart, a_cRead, a_cWrite, a_known, a_open, a_strict, a_start, a_readSet, a_sCount, a_saves, a_sKey, a_sValue, a_sThere, a_saved) (nI m) (nI k) := by
  unfold wpY_after
  exact ⟨H + 1, yw_after_go R hm hk64 hp H 0 (H + 1) (by omega) (by omega)⟩
theorem yw_wrote_go {post : Int32 → Prop} {K : Nat → Nat} {s n k : Nat} (hs : s < 4) (hn : n ≤ 12) (hk : k < 64) (hc : a_sCount s = nI n) (hK : ∀ j, a_sKey j = nI (K j)) (hK6 : ∀ j, K j < 64) (hp : post (bl_i (decide (0 < ow_n K s n k)))) : ∀ d i f, i + d = n → d < f → (∀ j, j < i → K (12 * s + j) ≠ k) → wY_wrote_5 post (nI s) (nI k) f_limit f_commits f_durable f_history a_hCommit a_hKey a_hValue a_hThere a_cStart a_cRead a_cWrite a_known a_open a_strict a_start a_readSet a_sCount a_saves a_sKey a_sValue a_sThere a_saved f (nI (12 * s + i)) := by
  have e1 : nI s * 12 + a_sCount (nI s).toNatClampNeg = nI (12 * s + n) := by rw [nI_clamp (by omega), hc, ix_12]
  intro d
  induction d with
  | zero =>
    intro i f hi hf hl
    obtain ⟨f, rfl⟩ : ∃ q, f = q + 1 := ⟨f - 1, by omega⟩
    obtain rfl : i = n := by omega
    have z : decide (0 < ow_n K s i k) = false := decide_eq_false (fun z => by
      obtain ⟨j, hj, e⟩ := (ow_i i).mp z
      exact hl j hj e)
    rw [z] at hp
    refine ⟨vp_in_nI hs (by decide), br_t ?_ hp⟩
    rw [e1]; exact nI_le (Nat.le_refl _) (by omega)
  | succ d ih =>
    intro i f hi hf hl
    obtain ⟨f, rfl⟩ : ∃ q, f = q + 1 := ⟨f - 1, by omega⟩
    refine ⟨vp_in_nI hs (by decide), br_f ?_ ⟨vp_in_nI (by omega) (by decide), pk_eq (K (12 * s + i)) k (fun e => ?_) (fun e => nm_r (nI_1 _) ?_) (rd_i hK (by omega)) rfl (by have := hK6 (12 * s + i); omega) (by omega)⟩⟩
    · rw [e1]; exact nI_ge (by omega) (by omega)
    · have z : decide (0 < ow_n K s n k) = true := decide_eq_true ((ow_i n).mpr ⟨i, by omega, e⟩)
      rw [z] at hp; exact hp
    · refine ih (i + 1) f (by omega) (by omega) ?_
      intro j hj
      by_cases c : j = i
      · rw [c]; exact e
      · exact hl j (by omega)
theorem yw_wrote {post : Int32 → Prop} {K : Nat → Nat} {s n k : Nat} (hs : s < 4) (hn : n ≤ 12) (hk : k < 64) (hc : a_sCount s = nI n) (hK : ∀ j, a_sKey j = nI (K j)) (hK6 : ∀ j, K j < 64) (hp : post (bl_i (decide (0 < ow_n K s n k)))) : wpY_wrote post (f_limit, f_commits, f_durable, f_history, a_hCommit, a_hKey, a_hValue, a_hThere, a_cStart, a_cRead, a_cWrite, a_known, a_open, a_strict, a_start, a_readSet, a_sCount, a_saves, a_sKey, a_sValue, a_sThere, a_saved) (nI s) (nI k) := by
  unfold wpY_wrote
  exact nm_r (ix_120 s) ⟨n + 1, yw_wrote_go hs hn hk hc hK hK6 hp n 0 (n + 1) (by omega) (by omega) (fun j hj => absurd hj (by omega))⟩
theorem yw_sees_go {post : Int64 → Prop} {K : Nat → Nat} {s n k : Nat} {o : Option Int32} (hs : s < 4) (hn : n ≤ 12) (hk : k < 64) (hc : a_sCount s = nI n) (hK : ∀ j, a_sKey j = nI (K j)) (hK6 : ∀ j, K j < 64) (hp : post (en_c (sn_v K a_sValue a_sThere s n k o))) : ∀ d i f, i + d = n → d < f → wY_sees_18 post (nI s) (nI k) f_limit f_commits f_durable f_history a_hCommit a_hKey a_hValue a_hThere a_cStart a_cRead a_cWrite a_known a_open a_strict a_start a_readSet a_sCount a_saves a_sKey a_sValue a_sThere a_saved f (en_c (sn_v K a_sValue a_sThere s i k o)) (nI (12 * s + i)) := by
  have e1 : nI s * 12 + a_sCount (nI s).toNatClampNeg = nI (12 * s + n) := by rw [nI_clamp (by omega), hc, ix_12]
  intro d
  induction d with
  | zero =>
    intro i f hi hf
    obtain ⟨f, rfl⟩ : ∃ q, f = q + 1 := ⟨f - 1, by omega⟩
    obtain rfl : i = n := by omega
    refine ⟨vp_in_nI hs (by decide), br_t ?_ hp⟩
    rw [e1]; exact nI_le (Nat.le_refl _) (by omega)
  | succ d ih =>
    intro i f hi hf
    obtain ⟨f, rfl⟩ : ∃ q, f = q + 1 := ⟨f - 1, by omega⟩
    have IH := ih (i + 1) f (by omega) (by omega)
    have hin : vp_in (nI (12 * s + i)) 48 := vp_in_nI (by omega) (by decide)
    have r3 : a_sThere (nI (12 * s + i)).toNatClampNeg = a_sThere (12 * s + i) := rd_a (by omega)
    have r4 : a_sValue (nI (12 * s + i)).toNatClampNeg = a_sValue (12 * s + i) := rd_a (by omega)
    refine ⟨vp_in_nI hs (by decide), br_f ?_ ⟨hin, pk_eq (K (12 * s + i)) k (fun e => ⟨hin, br_c (fun t => nm_r (nI_1 _) ?_) (fun t => ⟨hin, nm_r (e' := (a_sValue (12 * s + i)).toInt64) (by rw [r4]) (nm_r (nI_1 _) ?_)⟩)⟩) (fun e => nm_r (nI_1 _) ?_) (rd_i hK (by omega)) rfl (by have := hK6 (12 * s + i); omega) (by omega)⟩⟩
    · rw [e1]; exact nI_ge (by omega) (by omega)
    · have e2 : sn_v K a_sValue a_sThere s (i + 1) k o = ov_l (a_sThere (12 * s + i)) (a_sValue (12 * s + i)) := la_t (decide_eq_true e)
      rw [e2, ov_0 (r3.symm.trans t)] at IH; exact IH
    · have e2 : sn_v K a_sValue a_sThere s (i + 1) k o = ov_l (a_sThere (12 * s + i)) (a_sValue (12 * s + i)) := la_t (decide_eq_true e)
      rw [e2, ov_1 (fun z => t (r3.trans z))] at IH; exact IH
    · have e2 : sn_v K a_sValue a_sThere s (i + 1) k o = sn_v K a_sValue a_sThere s i k o := la_f (decide_eq_false e)
      rw [e2] at IH; exact IH
theorem yw_sees {post : Int64 → Prop} {hc hk : Nat → Nat} {H m : Nat} {K : Nat → Nat} {s n k : Nat} (R : hy_r f_history a_hCommit a_hKey hc hk H) (hs : s < 4) (hn : n ≤ 12) (hk6 : k < 64) (hm : m < 2 ^ 31) (hst : a_start s = nI m) (hcn : a_sCount s = nI n) (hK : ∀ j, a_sKey j = nI (K j)) (hK6 : ∀ j, K j < 64) (hp : post (en_c (sn_v K a_sValue a_sThere s n k (af_t hc hk a_hValue a_hThere m k H)))) : wpY_sees post (f_limit, f_commits, f_durable, f_history, a_hCommit, a_hKey, a_hValue, a_hThere, a_cStart, a_cRead, a_cWrite, a_known, a_open, a_strict, a_start, a_readSet, a_sCount, a_saves, a_sKey, a_sValue, a_sThere, a_saved) (nI s) (nI k) := by
  unfold wpY_sees
  refine ⟨vp_in_nI hs (by decide), ?_⟩
  have e : a_start (nI s).toNatClampNeg = nI m := by rw [nI_clamp (by omega)]; exact hst
  rw [e]
  refine yw_after R hm hk6 (nm_r (ix_120 s) ⟨n + 1, ?_⟩)
  exact yw_sees_go hs hn hk6 hcn hK hK6 hp n 0 (n + 1) (by omega) (by omega)
/-- what a note adds -/
def nt_b (K : Nat → Nat) (s n k : Nat) : Int64 := if 0 < ow_n K s n k then 0 else mb_t k
theorem yw_note {post : SY → Prop} {K : Nat → Nat} {s n k : Nat} (hs : s < 4) (hn : n ≤ 12) (hk : k < 64) (hc : a_sCount s = nI n) (hK : ∀ j, a_sKey j = nI (K j)) (hK6 : ∀ j, K j < 64) (hp : post (f_limit, f_commits, f_durable, f_history, a_hCommit, a_hKey, a_hValue, a_hThere, a_cStart, a_cRead, a_cWrite, a_known, a_open, a_strict, a_start, vp_updL a_readSet s (a_readSet s ||| nt_b K s n k), a_sCount, a_saves, a_sKey, a_sValue, a_sThere, a_saved)) : wpY_note post (f_limit, f_commits, f_durable, f_history, a_hCommit, a_hKey, a_hValue, a_hThere, a_cStart, a_cRead, a_cWrite, a_known, a_open, a_strict, a_start, a_readSet, a_sCount, a_saves, a_sKey, a_sValue, a_sThere, a_saved) (nI s) (nI k) := by
  unfold wpY_note
  refine yw_wrote hs hn hk hc hK hK6 ?_
  by_cases c : 0 < ow_n K s n k
  · rw [decide_eq_true c]
    refine br_f (by decide) ?_
    have e : nt_b K s n k = 0 := if_pos c
    rw [e, Int64.or_zero, wr_self rfl] at hp
    exact hp
  · rw [decide_eq_false c]
    have e : nt_b K s n k = mb_t k := if_neg c
    rw [e] at hp
    refine br_t rfl ⟨vp_in_nI hs (by decide), vp_in_nI hs (by decide), nm_r (wr_l (by omega) ?_) hp⟩
    rw [nI_clamp (by omega)]
    rfl
theorem yw_ws_go {post : Int64 → Prop} {K : Nat → Nat} {s n : Nat} (hs : s < 4) (hn : n ≤ 12) (hc : a_sCount s = nI n) (hK : ∀ j, a_sKey j = nI (K j)) (hp : post (ws_t K s n)) : ∀ d i f, i + d = n → d < f → wY_writeSet_8 post (nI s) f_limit f_commits f_durable f_history a_hCommit a_hKey a_hValue a_hThere a_cStart a_cRead a_cWrite a_known a_open a_strict a_start a_readSet a_sCount a_saves a_sKey a_sValue a_sThere a_saved f (ws_t K s i) (nI (12 * s + i)) := by
  have e1 : nI s * 12 + a_sCount (nI s).toNatClampNeg = nI (12 * s + n) := by rw [nI_clamp (by omega), hc, ix_12]
  intro d
  induction d with
  | zero =>
    intro i f hi hf
    obtain ⟨f, rfl⟩ : ∃ q, f = q + 1 := ⟨f - 1, by omega⟩
    obtain rfl : i = n := by omega
    refine ⟨vp_in_nI hs (by decide), br_t ?_ hp⟩
    rw [e1]; exact nI_le (Nat.le_refl _) (by omega)
  | succ d ih =>
    intro i f hi hf
    obtain ⟨f, rfl⟩ : ∃ q, f = q + 1 := ⟨f - 1, by omega⟩
    have IH := ih (i + 1) f (by omega) (by omega)
    refine ⟨vp_in_nI hs (by decide), br_f ?_ ⟨vp_in_nI (by omega) (by decide), nm_r (e' := ws_t K s (i + 1)) ?_ (nm_r (nI_1 _) IH)⟩⟩
    · rw [e1]; exact nI_ge (by omega) (by omega)
    · rw [rd_i hK (by omega)]; rfl
theorem yw_writeSet {post : Int64 → Prop} {K : Nat → Nat} {s n : Nat} (hs : s < 4) (hn : n ≤ 12) (hc : a_sCount s = nI n) (hK : ∀ j, a_sKey j = nI (K j)) (hp : post (ws_t K s n)) : wpY_writeSet post (f_limit, f_commits, f_durable, f_history, a_hCommit, a_hKey, a_hValue, a_hThere, a_cStart, a_cRead, a_cWrite, a_known, a_open, a_strict, a_start, a_readSet, a_sCount, a_saves, a_sKey, a_sValue, a_sThere, a_saved) (nI s) := by
  unfold wpY_writeSet
  exact nm_r (ix_120 s) ⟨n + 1, yw_ws_go hs hn hc hK hp n 0 (n + 1) (by omega) (by omega)⟩
end
end
section
/-! the reference's arrows, counts, loops of commit and crash -/
section
variable {f_limit : Int32} {f_commits : Int32} {f_durable : Int32} {f_history : Int32} {a_hCommit : Nat → Int32} {a_hKey : Nat → Int32} {a_hValue : Nat → Int32} {a_hThere : Nat → Int32} {a_cStart : Nat → Int32} {a_cRead : Nat → Int64} {a_cWrite : Nat → Int64} {a_known : Nat → Int32} {a_open : Nat → Int32} {a_strict : Nat → Int32} {a_start : Nat → Int32} {a_readSet : Nat → Int64} {a_sCount : Nat → Int32} {a_saves : Nat → Int32} {a_sKey : Nat → Int32} {a_sValue : Nat → Int32} {a_sThere : Nat → Int32} {a_saved : Nat → Int32}
theorem yw_arrow {post : Int32 → Prop} {cs : Nat → Nat} {i j : Nat} (hi : i < 520) (hj : j < 520) (hcs : ∀ q, a_cStart q = nI (cs q)) (hcb : ∀ q, cs q < 2 ^ 31) (hp : post (bl_i (pb_p (ar_w a_known cs a_cRead a_cWrite i j)))) : wpY_arrow post (f_limit, f_commits, f_durable, f_history, a_hCommit, a_hKey, a_hValue, a_hThere, a_cStart, a_cRead, a_cWrite, a_known, a_open, a_strict, a_start, a_readSet, a_sCount, a_saves, a_sKey, a_sValue, a_sThere, a_saved) (nI i) (nI j) := by
  have f : ¬ ar_w a_known cs a_cRead a_cWrite i j → post 0 := fun h => by rw [pb_f h] at hp; exact hp
  have t : ar_w a_known cs a_cRead a_cWrite i j → post 1 := fun h => by rw [pb_t h] at hp; exact hp
  have ii : vp_in (nI i) 520 := vp_in_nI hi (by decide)
  have ij : vp_in (nI j) 520 := vp_in_nI hj (by decide)
  have k1 : a_known (nI i).toNatClampNeg = a_known i := rd_a (by omega)
  have k2 : a_known (nI j).toNatClampNeg = a_known j := rd_a (by omega)
  have bi := hcb i
  have bj := hcb j
  unfold wpY_arrow
  refine pk_eq i j (fun e => f (fun z => z.1 e)) (fun ne => ⟨ii, br_c (fun c => f (fun z => z.2.1 (k1.symm.trans c))) (fun c => ⟨ij, br_c (fun d => f (fun z => z.2.2.1 (k2.symm.trans d))) (fun d => ⟨ii, pk_le j (cs i) (fun q => f (fun z => absurd z.2.2.2.1 (by omega))) (fun q => ⟨ij, pk_le i (cs j) (fun w => f (fun z => absurd z.2.2.2.2.1 (by omega))) (fun w => ⟨ii, ij, ?_⟩) rfl (rd_i hcs (by omega))⟩) rfl (rd_i hcs (by omega))⟩)⟩)⟩)
  have r1 : a_cRead (nI i).toNatClampNeg = a_cRead i := rd_a (by omega)
  have r2 : a_cWrite (nI j).toNatClampNeg = a_cWrite j := rd_a (by omega)
  rw [r1, r2]
  exact br_c (fun z => f (fun y => y.2.2.2.2.2 z)) (fun z => t ⟨ne, fun y => c (k1.trans y), fun y => d (k2.trans y), q, w, z⟩)
theorem yw_from_go {post : Int32 → Prop} {cs : Nat → Nat} {C m : Nat} (hC : f_commits = nI C) (hC5 : C + 1 < 520) (hm : m < 520) (hcs : ∀ q, a_cStart q = nI (cs q)) (hcb : ∀ q, cs q < 2 ^ 31) (hp : post (bl_i (pb_p (ar_in a_known cs a_cRead a_cWrite (C + 1) m)))) : ∀ d i n, i + d = C + 2 → d < n → 1 ≤ i → (∀ j, 1 ≤ j → j < i → ¬ ar_w a_known cs a_cRead a_cWrite j m) → wY_arrowFromSome_2 post (nI m) f_limit f_commits f_durable f_history a_hCommit a_hKey a_hValue a_hThere a_cStart a_cRead a_cWrite a_known a_open a_strict a_start a_readSet a_sCount a_saves a_sKey a_sValue a_sThere a_saved n (nI i) := by
  have e1 : f_commits + 1 = nI (C + 1) := by rw [hC]; exact nI_1 C
  intro d
  induction d with
  | zero =>
    intro i n hi hn h1 hl
    obtain ⟨n, rfl⟩ : ∃ q, n = q + 1 := ⟨n - 1, by omega⟩
    rw [pb_f (fun ⟨j, a, b, c⟩ => hl j a (by omega) c)] at hp
    refine br_t ?_ hp
    rw [e1]; exact nI_lt (by omega) (by omega)
  | succ d ih =>
    intro i n hi hn h1 hl
    obtain ⟨n, rfl⟩ : ∃ q, n = q + 1 := ⟨n - 1, by omega⟩
    refine br_f ?_ (yw_arrow (by omega) hm hcs hcb ?_)
    · rw [e1]; exact nI_nlt (by omega) (by omega)
    · by_cases c : ar_w a_known cs a_cRead a_cWrite i m
      · rw [pb_t c]
        rw [pb_t ⟨i, h1, by omega, c⟩] at hp
        exact br_f (by decide) hp
      · rw [pb_f c]
        refine br_t rfl (nm_r (nI_1 i) (ih (i + 1) n (by omega) (by omega) (by omega) ?_))
        intro j a b
        by_cases e : j = i
        · rw [e]; exact c
        · exact hl j a (by omega)
theorem yw_from {post : Int32 → Prop} {cs : Nat → Nat} {C m : Nat} (hC : f_commits = nI C) (hC5 : C + 1 < 520) (hm : m < 520) (hcs : ∀ q, a_cStart q = nI (cs q)) (hcb : ∀ q, cs q < 2 ^ 31) (hp : post (bl_i (pb_p (ar_in a_known cs a_cRead a_cWrite (C + 1) m)))) : wpY_arrowFromSome post (f_limit, f_commits, f_durable, f_history, a_hCommit, a_hKey, a_hValue, a_hThere, a_cStart, a_cRead, a_cWrite, a_known, a_open, a_strict, a_start, a_readSet, a_sCount, a_saves, a_sKey, a_sValue, a_sThere, a_saved) (nI m) := by
  unfold wpY_arrowFromSome
  exact ⟨C + 2, yw_from_go hC hC5 hm hcs hcb hp (C + 1) 1 (C + 2) (by omega) (by omega) (by omega) (fun j a b => absurd a (by omega))⟩
theorem yw_to_go {post : Int32 → Prop} {cs : Nat → Nat} {C m : Nat} (hC : f_commits = nI C) (hC5 : C + 1 < 520) (hm : m < 520) (hcs : ∀ q, a_cStart q = nI (cs q)) (hcb : ∀ q, cs q < 2 ^ 31) (hp : post (bl_i (pb_p (ar_out a_known cs a_cRead a_cWrite (C + 1) m)))) : ∀ d i n, i + d = C + 2 → d < n → 1 ≤ i → (∀ j, 1 ≤ j → j < i → ¬ ar_w a_known cs a_cRead a_cWrite m j) → wY_arrowToSome_2 post (nI m) f_limit f_commits f_durable f_history a_hCommit a_hKey a_hValue a_hThere a_cStart a_cRead a_cWrite a_known a_open a_strict a_start a_readSet a_sCount a_saves a_sKey a_sValue a_sThere a_saved n (nI i) := by
  have e1 : f_commits + 1 = nI (C + 1) := by rw [hC]; exact nI_1 C
  intro d
  induction d with
  | zero =>
    intro i n hi hn h1 hl
    obtain ⟨n, rfl⟩ : ∃ q, n = q + 1 := ⟨n - 1, by omega⟩
    rw [pb_f (fun ⟨j, a, b, c⟩ => hl j a (by omega) c)] at hp
    refine br_t ?_ hp
    rw [e1]; exact nI_lt (by omega) (by omega)
  | succ d ih =>
    intro i n hi hn h1 hl
    obtain ⟨n, rfl⟩ : ∃ q, n = q + 1 := ⟨n - 1, by omega⟩
    refine br_f ?_ (yw_arrow hm (by omega) hcs hcb ?_)
    · rw [e1]; exact nI_nlt (by omega) (by omega)
    · by_cases c : ar_w a_known cs a_cRead a_cWrite m i
      · rw [pb_t c]
        rw [pb_t ⟨i, h1, by omega, c⟩] at hp
        exact br_f (by decide) hp
      · rw [pb_f c]
        refine br_t rfl (nm_r (nI_1 i) (ih (i + 1) n (by omega) (by omega) (by omega) ?_))
        intro j a b
        by_cases e : j = i
        · rw [e]; exact c
        · exact hl j a (by omega)
theorem yw_to {post : Int32 → Prop} {cs : Nat → Nat} {C m : Nat} (hC : f_commits = nI C) (hC5 : C + 1 < 520) (hm : m < 520) (hcs : ∀ q, a_cStart q = nI (cs q)) (hcb : ∀ q, cs q < 2 ^ 31) (hp : post (bl_i (pb_p (ar_out a_known cs a_cRead a_cWrite (C + 1) m)))) : wpY_arrowToSome post (f_limit, f_commits, f_durable, f_history, a_hCommit, a_hKey, a_hValue, a_hThere, a_cStart, a_cRead, a_cWrite, a_known, a_open, a_strict, a_start, a_readSet, a_sCount, a_saves, a_sKey, a_sValue, a_sThere, a_saved) (nI m) := by
  unfold wpY_arrowToSome
  exact ⟨C + 2, yw_to_go hC hC5 hm hcs hcb hp (C + 1) 1 (C + 2) (by omega) (by omega) (by omega) (fun j a b => absurd a (by omega))⟩
/-- both arrows asked of m, then on -/
theorem yw_d37 {post : Int32 → Prop} {J : Int32 → Prop} {cs : Nat → Nat} {C m : Nat} (x1 : Int32) (hC : f_commits = nI C) (hC5 : C + 1 < 520) (hm : m < 520) (hcs : ∀ q, a_cStart q = nI (cs q)) (hcb : ∀ q, cs q < 2 ^ 31) (hy : ar_in a_known cs a_cRead a_cWrite (C + 1) m → ar_out a_known cs a_cRead a_cWrite (C + 1) m → post 1) (hn : ¬ (ar_in a_known cs a_cRead a_cWrite (C + 1) m ∧ ar_out a_known cs a_cRead a_cWrite (C + 1) m) → J (nI (m + 1))) : wY_dangerous_37 post J x1 (nI m) f_limit f_commits f_durable f_history a_hCommit a_hKey a_hValue a_hThere a_cStart a_cRead a_cWrite a_known a_open a_strict a_start a_readSet a_sCount a_saves a_sKey a_sValue a_sThere a_saved := by
  unfold wY_dangerous_37
  refine yw_from hC hC5 hm hcs hcb ?_
  by_cases c : ar_in a_known cs a_cRead a_cWrite (C + 1) m
  · rw [pb_t c]
    refine br_f (by decide) (yw_to hC hC5 hm hcs hcb ?_)
    by_cases d : ar_out a_known cs a_cRead a_cWrite (C + 1) m
    · rw [pb_t d]; exact br_f (by decide) (hy c d)
    · rw [pb_f d]; exact br_t rfl (nm_r (nI_1 m) (hn (fun z => d z.2)))
  · rw [pb_f c]; exact br_t rfl (nm_r (nI_1 m) (hn (fun z => c z.1)))
theorem yw_d_go {post : Int32 → Prop} {cs : Nat → Nat} {C : Nat} (hC : f_commits = nI C) (hC5 : C + 1 < 520) (hcs : ∀ q, a_cStart q = nI (cs q)) (hcb : ∀ q, cs q < 2 ^ 31) (hp : post (bl_i (pb_p (ar_d a_known cs a_cRead a_cWrite (C + 1))))) : ∀ d m n, m + d = C + 2 → d < n → 1 ≤ m → (∀ j, 1 ≤ j → j < m → ¬ ((j = C + 1 ∨ ar_w a_known cs a_cRead a_cWrite j (C + 1) ∨ ar_w a_known cs a_cRead a_cWrite (C + 1) j) ∧ ar_in a_known cs a_cRead a_cWrite (C + 1) j ∧ ar_out a_known cs a_cRead a_cWrite (C + 1) j)) → wY_dangerous_9 post (nI (C + 1)) f_limit f_commits f_durable f_history a_hCommit a_hKey a_hValue a_hThere a_cStart a_cRead a_cWrite a_known a_open a_strict a_start a_readSet a_sCount a_saves a_sKey a_sValue a_sThere a_saved n (nI m) := by
  intro d
  induction d with
  | zero =>
    intro i n hi hn h1 hl
    obtain ⟨n, rfl⟩ : ∃ q, n = q + 1 := ⟨n - 1, by omega⟩
    rw [pb_f (fun ⟨j, a, b, c⟩ => hl j a (by omega) c)] at hp
    exact br_t (nI_lt (by omega) (by omega)) hp
  | succ d ih =>
    intro i n hi hn h1 hl
    obtain ⟨n, rfl⟩ : ∃ q, n = q + 1 := ⟨n - 1, by omega⟩
    have hy : (i = C + 1 ∨ ar_w a_known cs a_cRead a_cWrite i (C + 1) ∨ ar_w a_known cs a_cRead a_cWrite (C + 1) i) → ar_in a_known cs a_cRead a_cWrite (C + 1) i → ar_out a_known cs a_cRead a_cWrite (C + 1) i → post 1 := by
      intro a b c
      rw [pb_t ⟨i, h1, by omega, a, b, c⟩] at hp
      exact hp
    have hg : ¬ ((i = C + 1 ∨ ar_w a_known cs a_cRead a_cWrite i (C + 1) ∨ ar_w a_known cs a_cRead a_cWrite (C + 1) i) ∧ ar_in a_known cs a_cRead a_cWrite (C + 1) i ∧ ar_out a_known cs a_cRead a_cWrite (C + 1) i) → wY_dangerous_9 post (nI (C + 1)) f_limit f_commits f_durable f_history a_hCommit a_hKey a_hValue a_hThere a_cStart a_cRead a_cWrite a_known a_open a_strict a_start a_readSet a_sCount a_saves a_sKey a_sValue a_sThere a_saved n (nI (i + 1)) := by
      intro z
      refine ih (i + 1) n (by omega) (by omega) (by omega) ?_
      intro j a b
      by_cases e : j = i
      · rw [e]; exact z
      · exact hl j a (by omega)
    refine br_f (nI_nlt (by omega) (by omega)) (pk_eq i (C + 1) (fun e => ?_) (fun e => ?_))
    · exact yw_d37 _ hC hC5 (by omega) hcs hcb (hy (Or.inl e)) (fun z => hg (fun y => z y.2))
    · refine yw_arrow (by omega) hC5 hcs hcb ?_
      by_cases c : ar_w a_known cs a_cRead a_cWrite i (C + 1)
      · rw [pb_t c]
        exact br_f (by decide) (yw_d37 _ hC hC5 (by omega) hcs hcb (hy (Or.inr (Or.inl c))) (fun z => hg (fun y => z y.2)))
      · rw [pb_f c]
        refine br_t rfl (yw_arrow hC5 (by omega) hcs hcb ?_)
        by_cases g : ar_w a_known cs a_cRead a_cWrite (C + 1) i
        · rw [pb_t g]
          exact br_f (by decide) (yw_d37 _ hC hC5 (by omega) hcs hcb (hy (Or.inr (Or.inr g))) (fun z => hg (fun y => z y.2)))
        · rw [pb_f g]
          exact br_t rfl (nm_r (nI_1 i) (hg (fun y => y.1.elim e (fun q => q.elim c g))))
theorem yw_dangerous {post : Int32 → Prop} {cs : Nat → Nat} {C : Nat} (hC : f_commits = nI C) (hC5 : C + 1 < 520) (hcs : ∀ q, a_cStart q = nI (cs q)) (hcb : ∀ q, cs q < 2 ^ 31) (hp : post (bl_i (pb_p (ar_d a_known cs a_cRead a_cWrite (C + 1))))) : wpY_dangerous post (f_limit, f_commits, f_durable, f_history, a_hCommit, a_hKey, a_hValue, a_hThere, a_cStart, a_cRead, a_cWrite, a_known, a_open, a_strict, a_start, a_readSet, a_sCount, a_saves, a_sKey, a_sValue, a_sThere, a_saved) := by
  unfold wpY_dangerous
  have e1 : f_commits + 1 = nI (C + 1) := by rw [hC]; exact nI_1 C
  exact nm_r e1 ⟨C + 2, yw_d_go hC hC5 hcs hcb hp (C + 1) 1 (C + 2) (by omega) (by omega) (by omega) (fun j a b => absurd a (by omega))⟩
/-- the inner loop of the count: is there a running strict session that began before commit j? -/
theorem yw_tr_in {post : Int32 → Prop} {J : Int32 → Int32 → Prop} {st : Nat → Nat} {x1 : Int32} {b c j : Nat} (hb : ∀ s, s < 4 → (nI s = x1 ↔ s = b)) (hj : j < 520) (hst : ∀ s, a_start s = nI (st s)) (hsb : ∀ s, st s < 2 ^ 31) (hp : J (nI (c + (if pb_p (a_known j ≠ 0 ∧ li_v a_open a_strict st b j) = true then 1 else 0))) (nI (j + 1))) : ∀ d i n, i + d = 4 → d < n → wY_tracked_18 post J x1 (nI c) (nI j) f_limit f_commits f_durable f_history a_hCommit a_hKey a_hValue a_hThere a_cStart a_cRead a_cWrite a_known a_open a_strict a_start a_readSet a_sCount a_saves a_sKey a_sValue a_sThere a_saved n (bl_i (pb_p (∃ s, s < i ∧ s ≠ b ∧ a_open s ≠ 0 ∧ a_strict s ≠ 0 ∧ st s < j))) (nI i) := by
  intro d
  induction d with
  | zero =>
    intro i n hi hn
    obtain ⟨n, rfl⟩ : ∃ q, n = q + 1 := ⟨n - 1, by omega⟩
    obtain rfl : i = 4 := by omega
    have rk : a_known (nI j).toNatClampNeg = a_known j := rd_a (by omega)
    refine br_t (by decide) ⟨vp_in_nI hj (by decide), br_c (fun k0 => nm_r (nI_1 j) ?_) (fun k1 => ?_)⟩
    · rw [pb_f (fun z => z.1 (rk.symm.trans k0))] at hp; exact hp
    · by_cases g : li_v a_open a_strict st b j
      · have g2 : (∃ s, s < 4 ∧ s ≠ b ∧ a_open s ≠ 0 ∧ a_strict s ≠ 0 ∧ st s < j) := g
        rw [pb_t g2]
        rw [pb_t ⟨fun z => k1 (rk.trans z), g⟩] at hp
        exact br_f (by decide) (nm_r (nI_1 c) (nm_r (nI_1 j) hp))
      · have g2 : ¬ (∃ s, s < 4 ∧ s ≠ b ∧ a_open s ≠ 0 ∧ a_strict s ≠ 0 ∧ st s < j) := g
        rw [pb_f g2]
        rw [pb_f (fun z => g z.2)] at hp
        exact br_t rfl (nm_r (nI_1 j) hp)
  | succ d ih =>
    intro i n hi hn
    obtain ⟨n, rfl⟩ : ∃ q, n = q + 1 := ⟨n - 1, by omega⟩
    have IH := ih (i + 1) n (by omega) (by omega)
    have hin : vp_in (nI i) 4 := vp_in_nI (by omega) (by decide)
    have ro : a_open (nI i).toNatClampNeg = a_open i := rd_a (by omega)
    have rs : a_strict (nI i).toNatClampNeg = a_strict i := rd_a (by omega)
    have keep : ¬ (i ≠ b ∧ a_open i ≠ 0 ∧ a_strict i ≠ 0 ∧ st i < j) → wY_tracked_18 post J x1 (nI c) (nI j) f_limit f_commits f_durable f_history a_hCommit a_hKey a_hValue a_hThere a_cStart a_cRead a_cWrite a_known a_open a_strict a_start a_readSet a_sCount a_saves a_sKey a_sValue a_sThere a_saved n (bl_i (pb_p (∃ s, s < i ∧ s ≠ b ∧ a_open s ≠ 0 ∧ a_strict s ≠ 0 ∧ st s < j))) (nI (i + 1)) := by
      intro z
      have e : pb_p (∃ s, s < i + 1 ∧ s ≠ b ∧ a_open s ≠ 0 ∧ a_strict s ≠ 0 ∧ st s < j) = pb_p (∃ s, s < i ∧ s ≠ b ∧ a_open s ≠ 0 ∧ a_strict s ≠ 0 ∧ st s < j) := pb_c ⟨fun ⟨s, h, g⟩ => by
          by_cases q : s = i
          · rw [q] at g; exact absurd g z
          · exact ⟨s, by omega, g⟩, fun ⟨s, h, g⟩ => ⟨s, by omega, g⟩⟩
      rw [e] at IH; exact IH
    refine br_f (nI_ge (b := 4) (by omega) (by decide)) (br_c (fun e => nm_r (nI_1 i) (keep (fun z => z.1 ((hb i (by omega)).mp e)))) (fun e => ⟨hin, br_c (fun o => nm_r (nI_1 i) (keep (fun z => z.2.1 (ro.symm.trans o)))) (fun o => ⟨hin, br_c (fun t => nm_r (nI_1 i) (keep (fun z => z.2.2.1 (rs.symm.trans t)))) (fun t => ⟨hin, pk_le j (st i) (fun q => nm_r (nI_1 i) (keep (fun z => absurd z.2.2.2 (by omega)))) (fun q => nm_r (nI_1 i) ?_) rfl (rd_i hst (by omega)) (by omega) (hsb i)⟩)⟩)⟩))
    rw [pb_t ⟨i, by omega, fun z => e ((hb i (by omega)).mpr z), fun z => o (ro.trans z), fun z => t (rs.trans z), q⟩] at IH
    exact IH
theorem yw_tr_go {post : Int32 → Prop} {st : Nat → Nat} {x1 : Int32} {b C : Nat} (hC : f_commits = nI C) (hC5 : C + 1 < 520) (hb : ∀ s, s < 4 → (nI s = x1 ↔ s = b)) (hst : ∀ s, a_start s = nI (st s)) (hsb : ∀ s, st s < 2 ^ 31) (hp : post (nI (cn_t (fun j => pb_p (a_known j ≠ 0 ∧ li_v a_open a_strict st b j)) (C + 1)))) : ∀ d j n, j + d = C + 1 → d < n → wY_tracked_4 post x1 f_limit f_commits f_durable f_history a_hCommit a_hKey a_hValue a_hThere a_cStart a_cRead a_cWrite a_known a_open a_strict a_start a_readSet a_sCount a_saves a_sKey a_sValue a_sThere a_saved n (nI (cn_t (fun j => pb_p (a_known j ≠ 0 ∧ li_v a_open a_strict st b j)) j)) (nI j) := by
  intro d
  induction d with
  | zero =>
    intro i n hi hn
    obtain ⟨n, rfl⟩ : ∃ q, n = q + 1 := ⟨n - 1, by omega⟩
    obtain rfl : i = C + 1 := by omega
    refine br_t ?_ hp
    rw [hC]; exact nI_lt (by omega) (by omega)
  | succ d ih =>
    intro i n hi hn
    obtain ⟨n, rfl⟩ : ∃ q, n = q + 1 := ⟨n - 1, by omega⟩
    refine br_f ?_ ⟨5, ?_⟩
    · rw [hC]; exact nI_nlt (by omega) (by omega)
    · have g : wY_tracked_18 post (wY_tracked_4 post x1 f_limit f_commits f_durable f_history a_hCommit a_hKey a_hValue a_hThere a_cStart a_cRead a_cWrite a_known a_open a_strict a_start a_readSet a_sCount a_saves a_sKey a_sValue a_sThere a_saved n) x1 (nI (cn_t (fun j => pb_p (a_known j ≠ 0 ∧ li_v a_open a_strict st b j)) i)) (nI i) f_limit f_commits f_durable f_history a_hCommit a_hKey a_hValue a_hThere a_cStart a_cRead a_cWrite a_known a_open a_strict a_start a_readSet a_sCount a_saves a_sKey a_sValue a_sThere a_saved 5 (bl_i (pb_p (∃ s, s < 0 ∧ s ≠ b ∧ a_open s ≠ 0 ∧ a_strict s ≠ 0 ∧ st s < i))) (nI 0) := yw_tr_in hb (by omega) hst hsb (ih (i + 1) n (by omega) (by omega)) 4 0 5 (by omega) (by omega)
      rw [pb_f (fun ⟨s, h, _⟩ => absurd h (by omega))] at g
      exact g
theorem yw_tracked {post : Int32 → Prop} {st : Nat → Nat} {x1 : Int32} {b C : Nat} (hC : f_commits = nI C) (hC5 : C + 1 < 520) (hb : ∀ s, s < 4 → (nI s = x1 ↔ s = b)) (hst : ∀ s, a_start s = nI (st s)) (hsb : ∀ s, st s < 2 ^ 31) (h0 : a_known 0 = 0) (hp : post (nI (cn_t (fun j => pb_p (a_known j ≠ 0 ∧ li_v a_open a_strict st b j)) (C + 1)))) : wpY_tracked post (f_limit, f_commits, f_durable, f_history, a_hCommit, a_hKey, a_hValue, a_hThere, a_cStart, a_cRead, a_cWrite, a_known, a_open, a_strict, a_start, a_readSet, a_sCount, a_saves, a_sKey, a_sValue, a_sThere, a_saved) x1 := by
  unfold wpY_tracked
  have g : wY_tracked_4 post x1 f_limit f_commits f_durable f_history a_hCommit a_hKey a_hValue a_hThere a_cStart a_cRead a_cWrite a_known a_open a_strict a_start a_readSet a_sCount a_saves a_sKey a_sValue a_sThere a_saved (C + 1) (nI (cn_t (fun j => pb_p (a_known j ≠ 0 ∧ li_v a_open a_strict st b j)) 1)) (nI 1) := yw_tr_go hC hC5 hb hst hsb hp C 1 (C + 1) (by omega) (by omega)
  have e : cn_t (fun j => pb_p (a_known j ≠ 0 ∧ li_v a_open a_strict st b j)) 1 = 0 := cn_z 1 (fun j hj => by
    obtain rfl : j = 0 := by omega
    exact pb_f (fun z => z.1 h0))
  rw [e] at g
  exact ⟨C + 1, g⟩
end
end
section
/-! the reference's loops of commit, crash, count; the component's count -/
theorem mb_least {x : Int64} (h : x ≠ 0) : ∃ k, k < 64 ∧ mb_b x k = true ∧ ∀ j, j < k → mb_b x j = false := by
  have g : ∀ n k, k < n → mb_b x k = true → ∃ k, k < 64 ∧ mb_b x k = true ∧ ∀ j, j < k → mb_b x j = false := by
    intro n
    induction n with
    | zero => intro k hk; exact absurd hk (by omega)
    | succ n ih =>
      intro k hk hb
      by_cases c : ∃ j, j < k ∧ mb_b x j = true
      · obtain ⟨j, hj, e⟩ := c
        exact ih j (by omega) e
      · exact ⟨k, mb_lt hb, hb, fun j hj => bo_nt (fun e => c ⟨j, hj, e⟩)⟩
  obtain ⟨k, _, hb⟩ := mb_nz h
  exact g (k + 1) k (by omega) hb
/-- one bit less: the count -/
theorem mb_cnt {x : Int64} {k : Nat} (hb : mb_b x k = true) (hl : ∀ j, j < k → mb_b x j = false) : cn_t (mb_b x) 64 = cn_t (mb_b (x &&& (x - 1))) 64 + 1 := by
  have h := cn_u (p := mb_b x) (q := mb_b (x &&& (x - 1))) (k := k) (by rw [mb_clr hb hl, decide_eq_true rfl, Bool.and_comm]; rfl) hb (by
    intro j hj
    rw [mb_clr hb hl, decide_eq_false hj, Bool.and_comm]; rfl) 64
  rw [h, if_pos (mb_lt hb)]
section
variable {f_limit : Int32} {f_commits : Int32} {f_durable : Int32} {f_history : Int32} {a_hCommit : Nat → Int32} {a_hKey : Nat → Int32} {a_hValue : Nat → Int32} {a_hThere : Nat → Int32} {a_cStart : Nat → Int32} {a_cRead : Nat → Int64} {a_cWrite : Nat → Int64} {a_known : Nat → Int32} {a_open : Nat → Int32} {a_strict : Nat → Int32} {a_start : Nat → Int32} {a_readSet : Nat → Int64} {a_sCount : Nat → Int32} {a_saves : Nat → Int32} {a_sKey : Nat → Int32} {a_sValue : Nat → Int32} {a_sThere : Nat → Int32} {a_saved : Nat → Int32}
theorem yw_cnt_go {post : Int32 → Prop} : ∀ f c x, mb_n x < f → post (nI (c + cn_t (mb_b x) 64)) → wY_count_64 post f_limit f_commits f_durable f_history a_hCommit a_hKey a_hValue a_hThere a_cStart a_cRead a_cWrite a_known a_open a_strict a_start a_readSet a_sCount a_saves a_sKey a_sValue a_sThere a_saved f (nI c) x := by
  intro f
  induction f with
  | zero => intro c x h; exact absurd h (by omega)
  | succ f ih =>
    intro c x hf hp
    by_cases e : x = 0
    · rw [cn_z 64 (fun j hj => by rw [e]; exact mb_0 j)] at hp
      exact br_t e hp
    · obtain ⟨k, _, hb, hl⟩ := mb_least e
      have g := mb_nlt e
      rw [mb_cnt hb hl, show c + (cn_t (mb_b (x &&& (x - 1))) 64 + 1) = c + 1 + cn_t (mb_b (x &&& (x - 1))) 64 by omega] at hp
      exact br_f e (nm_r (nI_1 c) (nm_e (ih (c + 1) _ (by omega) hp)))
theorem yw_c125 {post : Int32 → SY → Prop} {s n H : Nat} {x2 : Int32} (hs : s < 4) (hn : n ≤ 12) (hH : H + n ≤ 520) (hcn : a_sCount s = nI n) (hth : bl_ok a_sThere)
    (hp : ((x2 - f_durable) < f_limit → post 0 (f_limit, x2, f_durable, nI (H + n), cp_y a_hCommit H (fun _ => x2) n, cp_y a_hKey H (fun i => a_sKey (12 * s + i)) n, cp_y a_hValue H (fun i => a_sValue (12 * s + i)) n, cp_y a_hThere H (fun i => a_sThere (12 * s + i)) n, a_cStart, a_cRead, a_cWrite, a_known, a_open, a_strict, a_start, a_readSet, a_sCount, a_saves, a_sKey, a_sValue, a_sThere, a_saved)) ∧ (¬ (x2 - f_durable) < f_limit → post 0 (f_limit, x2, x2, nI (H + n), cp_y a_hCommit H (fun _ => x2) n, cp_y a_hKey H (fun i => a_sKey (12 * s + i)) n, cp_y a_hValue H (fun i => a_sValue (12 * s + i)) n, cp_y a_hThere H (fun i => a_sThere (12 * s + i)) n, a_cStart, a_cRead, a_cWrite, a_known, a_open, a_strict, a_start, a_readSet, a_sCount, a_saves, a_sKey, a_sValue, a_sThere, a_saved))) :
    ∀ d i f, i + d = n → d < f → wY_commit_125 post (nI s) x2 f_limit f_commits f_durable f (nI (12 * s + i)) (nI (H + i)) (cp_y a_hCommit H (fun _ => x2) i) (cp_y a_hKey H (fun i => a_sKey (12 * s + i)) i) (cp_y a_hValue H (fun i => a_sValue (12 * s + i)) i) (cp_y a_hThere H (fun i => a_sThere (12 * s + i)) i) a_cStart a_cRead a_cWrite a_known a_open a_strict a_start a_readSet a_sCount a_saves a_sKey a_sValue a_sThere a_saved := by
  have e1 : nI s * 12 + a_sCount (nI s).toNatClampNeg = nI (12 * s + n) := by rw [nI_clamp (by omega), hcn, ix_12]
  intro d
  induction d with
  | zero =>
    intro i f hi hf
    obtain ⟨f, rfl⟩ : ∃ q, f = q + 1 := ⟨f - 1, by omega⟩
    obtain rfl : i = n := by omega
    refine ⟨vp_in_nI hs (by decide), br_t ?_ hp⟩
    rw [e1]; exact nI_le (Nat.le_refl _) (by omega)
  | succ d ih =>
    intro i f hi hf
    obtain ⟨f, rfl⟩ : ∃ q, f = q + 1 := ⟨f - 1, by omega⟩
    have IH := ih (i + 1) f (by omega) (by omega)
    have h5 : vp_in (nI (H + i)) 520 := vp_in_nI (by omega) (by decide)
    have h4 : vp_in (nI (12 * s + i)) 48 := vp_in_nI (by omega) (by decide)
    refine ⟨vp_in_nI hs (by decide), br_f ?_ ⟨h5, nm_r (e' := cp_y a_hCommit H (fun _ => x2) (i + 1)) (wr_i (by omega) rfl) ⟨h4, h5, nm_r (e' := cp_y a_hKey H (fun i => a_sKey (12 * s + i)) (i + 1)) (wr_i (by omega) (rd_a (by omega))) ⟨h4, h5, nm_r (e' := cp_y a_hValue H (fun i => a_sValue (12 * s + i)) (i + 1)) (wr_i (by omega) (rd_a (by omega))) ⟨h4, h5, nm_r (e' := cp_y a_hThere H (fun i => a_sThere (12 * s + i)) (i + 1)) (wr_i (by omega) ?_) (nm_r (nI_1 _) (nm_r (nI_1 _) IH))⟩⟩⟩⟩⟩
    · rw [e1]; exact nI_ge (by omega) (by omega)
    · rw [nI_clamp (by omega)]; exact bl_nar (hth _)
theorem yw_cr55 {post : Int32 → SY → Prop} {hc hk : Nat → Nat} {H D : Nat} (R : hy_r f_history a_hCommit a_hKey hc hk H) (hD : f_durable = nI D) (hDb : D < 2 ^ 31) (hp : post f_commits (f_limit, f_commits, f_durable, nI (cn_t (fun i => decide (hc i ≤ D)) H), a_hCommit, a_hKey, a_hValue, a_hThere, a_cStart, a_cRead, a_cWrite, a_known, a_open, a_strict, a_start, a_readSet, a_sCount, a_saves, a_sKey, a_sValue, a_sThere, a_saved)) : ∀ d i n, i + d = H → d < n → wY_crash_55 post f_limit f_commits f_durable f_history a_hCommit a_hKey a_hValue a_hThere a_cStart a_cRead a_cWrite a_known a_open a_strict a_start a_readSet a_sCount a_saves a_sKey a_sValue a_sThere a_saved n (nI (cn_t (fun i => decide (hc i ≤ D)) i)) (nI i) := by
  obtain ⟨rfl, hH, hR⟩ := R
  intro d
  induction d with
  | zero =>
    intro i n hi hn
    obtain ⟨n, rfl⟩ : ∃ q, n = q + 1 := ⟨n - 1, by omega⟩
    obtain rfl : i = H := by omega
    exact br_t (nI_le (Nat.le_refl _) (by omega)) hp
  | succ d ih =>
    intro i n hi hn
    obtain ⟨n, rfl⟩ : ∃ q, n = q + 1 := ⟨n - 1, by omega⟩
    obtain ⟨c1, c2, c3, c4⟩ := hR i
    have IH := ih (i + 1) n (by omega) (by omega)
    have r1 : a_hCommit (nI i).toNatClampNeg = nI (hc i) := by rw [nI_clamp (by omega)]; exact c1
    rw [cn_s] at IH
    refine br_f (nI_ge (by omega) (by omega)) ⟨vp_in_nI (by omega) (by decide), pk_lt D (hc i) (fun h => nm_r (nI_1 i) ?_) (fun h => nm_r (nI_1 _) (nm_r (nI_1 i) ?_)) hD r1⟩
    · rw [if_neg (by rw [decide_eq_false (by omega)]; decide)] at IH; exact IH
    · rw [if_pos (decide_eq_true h)] at IH; exact IH
theorem yw_cr22 {post : Int32 → SY → Prop} {hc hk : Nat → Nat} {H D C : Nat} (R : hy_r f_history a_hCommit a_hKey hc hk H) (hC : f_commits = nI C) (hC5 : C < 520) (hD : f_durable = nI D) (hDb : D < 2 ^ 31) (hp : post f_durable (f_limit, f_durable, f_durable, nI (cn_t (fun i => decide (hc i ≤ D)) H), a_hCommit, a_hKey, a_hValue, a_hThere, a_cStart, a_cRead, a_cWrite, cp_y a_known 1 (fun _ => 0) C, a_open, a_strict, a_start, a_readSet, a_sCount, a_saves, a_sKey, a_sValue, a_sThere, a_saved)) : ∀ d i n, i + d = C → d < n → wY_crash_22 post f_limit f_commits f_durable f_history n (nI (1 + i)) a_hCommit a_hKey a_hValue a_hThere a_cStart a_cRead a_cWrite (cp_y a_known 1 (fun _ => 0) i) a_open a_strict a_start a_readSet a_sCount a_saves a_sKey a_sValue a_sThere a_saved := by
  intro d
  induction d with
  | zero =>
    intro i n hi hn
    obtain ⟨n, rfl⟩ : ∃ q, n = q + 1 := ⟨n - 1, by omega⟩
    obtain rfl : i = C := by omega
    refine br_t ?_ ⟨H + 1, yw_cr55 R hD hDb hp H 0 (H + 1) (by omega) (by omega)⟩
    rw [hC]; exact nI_lt (by omega) (by omega)
  | succ d ih =>
    intro i n hi hn
    obtain ⟨n, rfl⟩ : ∃ q, n = q + 1 := ⟨n - 1, by omega⟩
    have IH := ih (i + 1) n (by omega) (by omega)
    refine br_f ?_ ⟨vp_in_nI (by omega) (by decide), nm_r (e' := cp_y a_known 1 (fun _ => 0) (i + 1)) (wr_i (by omega) bl_n0) (nm_r (nI_1 _) IH)⟩
    rw [hC]; exact nI_nlt (by omega) (by omega)
theorem yw_cr2 {post : Int32 → SY → Prop} {hc hk : Nat → Nat} {H D C : Nat} (R : hy_r f_history a_hCommit a_hKey hc hk H) (hC : f_commits = nI C) (hC5 : C < 520) (hD : f_durable = nI D) (hDb : D < 2 ^ 31) (hp : post f_durable (f_limit, f_durable, f_durable, nI (cn_t (fun i => decide (hc i ≤ D)) H), a_hCommit, a_hKey, a_hValue, a_hThere, a_cStart, a_cRead, a_cWrite, cp_y a_known 1 (fun _ => 0) C, cp_y a_open 0 (fun _ => 0) 4, a_strict, a_start, a_readSet, a_sCount, a_saves, a_sKey, a_sValue, a_sThere, a_saved)) : ∀ d i n, i + d = 4 → d < n → wY_crash_2 post f_limit f_commits f_durable f_history n (nI (0 + i)) a_hCommit a_hKey a_hValue a_hThere a_cStart a_cRead a_cWrite a_known (cp_y a_open 0 (fun _ => 0) i) a_strict a_start a_readSet a_sCount a_saves a_sKey a_sValue a_sThere a_saved := by
  intro d
  induction d with
  | zero =>
    intro i n hi hn
    obtain ⟨n, rfl⟩ : ∃ q, n = q + 1 := ⟨n - 1, by omega⟩
    obtain rfl : i = 4 := by omega
    exact br_t (by decide) ⟨C + 1, yw_cr22 R hC hC5 hD hDb hp C 0 (C + 1) (by omega) (by omega)⟩
  | succ d ih =>
    intro i n hi hn
    obtain ⟨n, rfl⟩ : ∃ q, n = q + 1 := ⟨n - 1, by omega⟩
    have IH := ih (i + 1) n (by omega) (by omega)
    exact br_f (nI_ge (b := 4) (by omega) (by decide)) ⟨vp_in_nI (by omega) (by decide), nm_r (e' := cp_y a_open 0 (fun _ => 0) (i + 1)) (wr_i (by omega) bl_n0) (nm_r (nI_1 _) IH)⟩
theorem yw_crash {post : Int32 → SY → Prop} {hc hk : Nat → Nat} {H D C : Nat} (R : hy_r f_history a_hCommit a_hKey hc hk H) (hC : f_commits = nI C) (hC5 : C < 520) (hD : f_durable = nI D) (hDb : D < 2 ^ 31) (hp : post f_durable (f_limit, f_durable, f_durable, nI (cn_t (fun i => decide (hc i ≤ D)) H), a_hCommit, a_hKey, a_hValue, a_hThere, a_cStart, a_cRead, a_cWrite, cp_y a_known 1 (fun _ => 0) C, cp_y a_open 0 (fun _ => 0) 4, a_strict, a_start, a_readSet, a_sCount, a_saves, a_sKey, a_sValue, a_sThere, a_saved)) : wpY_crash post (f_limit, f_commits, f_durable, f_history, a_hCommit, a_hKey, a_hValue, a_hThere, a_cStart, a_cRead, a_cWrite, a_known, a_open, a_strict, a_start, a_readSet, a_sCount, a_saves, a_sKey, a_sValue, a_sThere, a_saved) := by
  unfold wpY_crash
  exact ⟨5, yw_cr2 R hC hC5 hD hDb hp 4 0 5 (by omega) (by omega)⟩
end
section
variable {f_group : Int32} {f_present : Int64} {f_freeVersion : Int32} {f_freeCount : Int32} {f_tracked : Int32} {f_logLength : Int32} {f_baseMask : Int64} {f_commits : Int32} {f_durable : Int32} {a_newest : Nat → Int32} {a_verValue : Nat → Int32} {a_verThere : Nat → Int32} {a_verStamp : Nat → Int32} {a_verOlder : Nat → Int32} {a_fenwick : Nat → Int64} {a_open : Nat → Int32} {a_serial : Nat → Int32} {a_start : Nat → Int32} {a_readMask : Nat → Int64} {a_writeMask : Nat → Int64} {a_dirty : Nat → Int64} {a_writes : Nat → Int32} {a_writeKey : Nat → Int32} {a_writeValue : Nat → Int32} {a_writeThere : Nat → Int32} {a_writeBefore : Nat → Int32} {a_lastWrite : Nat → Int32} {a_saves : Nat → Int32} {a_saveAt : Nat → Int32} {a_trackNumber : Nat → Int32} {a_trackRead : Nat → Int64} {a_trackWrite : Nat → Int64} {a_trackIn : Nat → Int32} {a_trackOut : Nat → Int32} {a_logKey : Nat → Int32} {a_logValue : Nat → Int32} {a_logThere : Nat → Int32} {a_logStamp : Nat → Int32} {a_baseValue : Nat → Int32}
theorem xw_cnt_go {post : Int32 → Prop} : ∀ N f c m, N < f → m < 2 ^ (N + 1) → m < 2 ^ 64 → post (nI (c + cn_t m.testBit (N + 1))) → wX_count_70 post f_group f_present f_freeVersion f_freeCount f_tracked f_logLength f_baseMask f_commits f_durable a_newest a_verValue a_verThere a_verStamp a_verOlder a_fenwick a_open a_serial a_start a_readMask a_writeMask a_dirty a_writes a_writeKey a_writeValue a_writeThere a_writeBefore a_lastWrite a_saves a_saveAt a_trackNumber a_trackRead a_trackWrite a_trackIn a_trackOut a_logKey a_logValue a_logThere a_logStamp a_baseValue f (nI c) (lN m) := by
  intro N
  have hb : ∀ m c : Nat, nI c + ((lN m).toInt32 &&& 1) = nI (c + (if m.testBit 0 = true then 1 else 0)) := by
    intro m c
    rw [lN_i, pk_and (m := 1) (nI m) 1 (by decide), nI_add]
    congr 2
    have e : (nI m).toBitVec.toNat = m % 2 ^ 32 := rfl
    rw [e, Nat.testBit_zero]
    by_cases d : m % 2 = 1
    · rw [decide_eq_true d, if_pos rfl]; omega
    · rw [decide_eq_false d, if_neg (by decide)]; omega
  have hs : ∀ m, m < 2 ^ 64 → ((lN m).toUInt64 >>> ((1 : Int32).toInt64.toUInt64 &&& Int64.toUInt64 63)).toInt64 = lN (m / 2) := fun m hm => wb_shr (k := 1) hm (by decide)
  have hz : ∀ m, m < 2 ^ 64 → (lN (m / 2) = 0 ↔ m / 2 = 0) := fun m hm => pk_lEQ (b := 0) (by omega) (by decide)
  have hc : ∀ m n, cn_t m.testBit (n + 1) = (if m.testBit 0 = true then 1 else 0) + cn_t (m / 2).testBit n := by
    intro m n
    rw [cn_h]
    congr 1
    exact cn_c n (fun j _ => Nat.testBit_add_one m j)
  induction N with
  | zero =>
    intro f c m hf hm h64 hp
    obtain ⟨f, rfl⟩ : ∃ q, f = q + 1 := ⟨f - 1, by omega⟩
    rw [hc] at hp
    exact nm_r (hb m c) (nm_r (hs m h64) (br_t ((hz m h64).mpr (by omega)) hp))
  | succ N ih =>
    intro f c m hf hm h64 hp
    obtain ⟨f, rfl⟩ : ∃ q, f = q + 1 := ⟨f - 1, by omega⟩
    rw [hc, ← Nat.add_assoc] at hp
    refine nm_r (hb m c) (nm_r (hs m h64) ?_)
    by_cases e : m / 2 = 0
    · refine br_t ((hz m h64).mpr e) ?_
      rw [cn_z (N + 1) (fun j _ => by rw [e]; exact Nat.zero_testBit j)] at hp
      exact hp
    · exact br_f (fun z => e ((hz m h64).mp z)) (ih f _ _ (by omega) (by rw [Nat.pow_succ] at hm; omega) (by omega) hp)
theorem xw_cnt {post : Int32 → Prop} {x : Int64} (hp : post (nI (cn_t (mb_b x) 64))) : wX_count_70 post f_group f_present f_freeVersion f_freeCount f_tracked f_logLength f_baseMask f_commits f_durable a_newest a_verValue a_verThere a_verStamp a_verOlder a_fenwick a_open a_serial a_start a_readMask a_writeMask a_dirty a_writes a_writeKey a_writeValue a_writeThere a_writeBefore a_lastWrite a_saves a_saveAt a_trackNumber a_trackRead a_trackWrite a_trackIn a_trackOut a_logKey a_logValue a_logThere a_logStamp a_baseValue 64 0 x := by
  obtain ⟨X, hX, rfl⟩ := wb_of x
  have e : cn_t (mb_b (lN X)) 64 = cn_t X.testBit 64 := cn_c 64 (fun j hj => by rw [mb_lN, decide_eq_true hj, Bool.true_and])
  rw [e] at hp
  refine xw_cnt_go 63 64 0 X (by decide) hX hX ?_
  rw [Nat.zero_add]; exact hp
end
end
section
/-! the component's write lists, locks, horizon, needed -/
theorem ex_s {Q : Nat → Prop} {i : Nat} {b : Bool} (hb : b = true ↔ Q i) : bl_i (pb_p (∃ s, s < i ∧ Q s)) ||| bl_i b = bl_i (pb_p (∃ s, s < i + 1 ∧ Q s)) := by
  rw [bl_or]
  congr 1
  apply bo_ext
  rw [Bool.or_eq_true, pb_i, pb_i, hb]
  constructor
  · rintro (⟨s, h, q⟩ | q)
    · exact ⟨s, by omega, q⟩
    · exact ⟨i, by omega, q⟩
  · rintro ⟨s, h, q⟩
    by_cases e : s = i
    · rw [e] at q; exact Or.inr q
    · exact Or.inl ⟨s, by omega, q⟩
theorem ex_0 {Q : Nat → Prop} : bl_i (pb_p (∃ s, s < 0 ∧ Q s)) = 0 := by
  rw [pb_f (fun ⟨s, h, _⟩ => absurd h (by omega))]; rfl
def wi_v (K N : Nat → Nat) (w bef l : Nat → Int32) (m : Nat → Int64) : Prop :=
  (∀ s, w s = nI (N s)) ∧ (∀ s, N s ≤ 12) ∧ (∀ s, s < 4 → ∀ k, k < 64 → l (64 * s + k) = nI (ow_n K s (N s) k)) ∧ (∀ s, s < 4 → ∀ i, i < N s → bef (12 * s + i) = nI (ow_n K s i (K (12 * s + i)))) ∧ (∀ s, s < 4 → m s = ws_t K s (N s))
theorem wi_back {K N : Nat → Nat} {w bef l : Nat → Int32} {m m' : Nat → Int64} {s q : Nat} (hK6 : ∀ j, K j < 64) (h : wi_v K N w bef l m) (hs : s < 4) (hq : N s = q + 1) (hm : ∀ t, t < 4 → m' t = ws_t K t (un_u N s q t)) : wi_v K (un_u N s q) (upd w s (nI q)) bef (upd l (64 * s + K (12 * s + q)) (nI (ow_n K s q (K (12 * s + q))))) m' := by
  obtain ⟨h1, h2, h3, h4, h5⟩ := h
  refine ⟨un_upd h1 s q, ?_, ?_, ?_, hm⟩
  · intro t
    by_cases e : t = s
    · rw [e, un_s]; have := h2 s; omega
    · rw [un_n e]; exact h2 t
  · intro t ht k hk
    have := hK6 (12 * s + q)
    by_cases e : t = s
    · subst e
      rw [un_s]
      by_cases c : k = K (12 * t + q)
      · rw [← c, pk_us]
      · rw [pk_un (by omega), h3 t ht k hk, hq, ow_f (fun z => c z.symm)]
    · rw [un_n e, pk_un (by omega)]; exact h3 t ht k hk
  · intro t ht i hi
    by_cases e : t = s
    · subst e
      rw [un_s] at hi
      exact h4 t ht i (by omega)
    · rw [un_n e] at hi
      exact h4 t ht i hi
theorem wi_m0 {K : Nat → Nat} {s q : Nat} (hK6 : ∀ j, K j < 64) (h : ow_n K s q (K (12 * s + q)) = 0) : (ws_t K s (q + 1) &&& (mb_t (K (12 * s + q)) ^^^ (-1))) = ws_t K s q := by
  apply mb_ext
  intro k hk
  show mb_b ((ws_t K s q ||| mb_t (K (12 * s + q))) &&& (mb_t (K (12 * s + q)) ^^^ (-1))) k = _
  rw [mb_and, mb_or, mb_not hk, mb_tb (hK6 _)]
  by_cases c : k = K (12 * s + q)
  · rw [decide_eq_true c, Bool.not_true, Bool.and_false, ws_b hK6, c, h]; rfl
  · rw [decide_eq_false c, Bool.or_false, Bool.not_false, Bool.and_true]
theorem wi_m1 {K : Nat → Nat} {s q : Nat} (hK6 : ∀ j, K j < 64) (h : 0 < ow_n K s q (K (12 * s + q))) : ws_t K s (q + 1) = ws_t K s q := by
  apply mb_ext
  intro k hk
  show mb_b (ws_t K s q ||| mb_t (K (12 * s + q))) k = _
  rw [mb_or, mb_tb (hK6 _)]
  by_cases c : k = K (12 * s + q)
  · rw [decide_eq_true c, Bool.or_true, ws_b hK6, c, decide_eq_true h]
  · rw [decide_eq_false c, Bool.or_false]
theorem wi_put {K N : Nat → Nat} {w bef l : Nat → Int32} {m : Nat → Int64} {s k : Nat} (h : wi_v K N w bef l m) (hs : s < 4) (hk : k < 64) (hn : N s < 12) : wi_v (un_u K (12 * s + N s) k) (un_u N s (N s + 1)) (upd w s (nI (N s + 1))) (upd bef (12 * s + N s) (nI (ow_n K s (N s) k))) (upd l (64 * s + k) (nI (12 * s + N s + 1))) (vp_updL m s (m s ||| mb_t k)) := by
  obtain ⟨h1, h2, h3, h4, h5⟩ := h
  have cs : ∀ t, t < 4 → ∀ n, n ≤ N t → ∀ q, ow_n (un_u K (12 * s + N s) k) t n q = ow_n K t n q := by
    intro t ht n hnt q
    apply ow_c
    intro i hi
    have := h2 t
    by_cases e : t = s
    · subst e; exact un_n (by omega)
    · exact un_n (by omega)
  have ck : un_u K (12 * s + N s) k (12 * s + N s) = k := un_s
  refine ⟨un_upd h1 s _, ?_, ?_, ?_, ?_⟩
  · intro t
    by_cases e : t = s
    · rw [e, un_s]; omega
    · rw [un_n e]; exact h2 t
  · intro t ht j hj
    by_cases e : t = s
    · subst e
      rw [un_s]
      by_cases c : j = k
      · rw [c, pk_us, ow_t ck]
      · rw [pk_un (by omega), ow_f (by rw [ck]; exact fun z => c z.symm), cs t ht _ (Nat.le_refl _)]; exact h3 t ht j hj
    · rw [un_n e, pk_un (by omega), cs t ht _ (Nat.le_refl _)]; exact h3 t ht j hj
  · intro t ht i hi
    by_cases e : t = s
    · subst e
      rw [un_s] at hi
      by_cases c : i = N t
      · rw [c, pk_us, ck, cs t ht _ (Nat.le_refl _)]
      · rw [pk_un (by omega), un_n (by omega), cs t ht _ (by omega)]; exact h4 t ht i (by omega)
    · rw [un_n e] at hi
      have := h2 t
      rw [pk_un (by omega), un_n (by omega), cs t ht _ (by omega)]; exact h4 t ht i hi
  · intro t ht
    have cw : ∀ t, t < 4 → ∀ n, n ≤ N t → ws_t (un_u K (12 * s + N s) k) t n = ws_t K t n := by
      intro t ht n
      induction n with
      | zero => intro _; rfl
      | succ n ih =>
        intro hnt
        have := h2 t
        show ws_t _ t n ||| mb_t (un_u K (12 * s + N s) k (12 * t + n)) = ws_t K t n ||| mb_t (K (12 * t + n))
        have ne : 12 * t + n ≠ 12 * s + N s := by
          by_cases e : t = s
          · subst e; omega
          · omega
        rw [ih (by omega), un_n ne]
    by_cases e : t = s
    · subst e
      rw [un_s, pk_uLs, h5 t ht]
      show _ = ws_t _ t (N t) ||| mb_t (un_u K (12 * t + N t) k (12 * t + N t))
      rw [cw t ht _ (Nat.le_refl _), ck]
    · rw [un_n e, pk_uLn e, cw t ht _ (Nat.le_refl _)]; exact h5 t ht
theorem un_id {α : Type} {f : Nat → α} {k : Nat} {x : α} (h : f k = x) : un_u f k x = f := by
  funext j
  by_cases e : j = k
  · rw [e, un_s, h]
  · rw [un_n e]
theorem un_two {α : Type} {f : Nat → α} {k : Nat} {x y : α} : un_u (un_u f k x) k y = un_u f k y := by
  funext j
  by_cases e : j = k
  · rw [e, un_s, un_s]
  · rw [un_n e, un_n e, un_n e]
def lk_m (m : Nat → Int64) (s : Nat) : Nat → Int64
  | 0 => 0
  | i + 1 => lk_m m s i ||| (if i = s then 0 else m i)
theorem lk_b {m : Nat → Int64} {s k : Nat} : ∀ i, mb_b (lk_m m s i) k = true ↔ ∃ t, t < i ∧ t ≠ s ∧ mb_b (m t) k = true
  | 0 => ⟨fun h => by rw [show lk_m m s 0 = 0 from rfl, mb_0] at h; exact absurd h (by decide), fun ⟨t, h, _⟩ => absurd h (by omega)⟩
  | i + 1 => by
    show mb_b (lk_m m s i ||| (if i = s then 0 else m i)) k = true ↔ _
    rw [mb_or, Bool.or_eq_true, lk_b i]
    constructor
    · rintro (⟨t, a, b, c⟩ | h)
      · exact ⟨t, by omega, b, c⟩
      · by_cases e : i = s
        · rw [if_pos e, mb_0] at h; exact absurd h (by decide)
        · rw [if_neg e] at h; exact ⟨i, by omega, e, h⟩
    · rintro ⟨t, a, b, c⟩
      by_cases e : t = i
      · subst e; rw [if_neg b]; exact Or.inr c
      · exact Or.inl ⟨t, by omega, b, c⟩
section
variable {f_group : Int32} {f_present : Int64} {f_freeVersion : Int32} {f_freeCount : Int32} {f_tracked : Int32} {f_logLength : Int32} {f_baseMask : Int64} {f_commits : Int32} {f_durable : Int32} {a_newest : Nat → Int32} {a_verValue : Nat → Int32} {a_verThere : Nat → Int32} {a_verStamp : Nat → Int32} {a_verOlder : Nat → Int32} {a_fenwick : Nat → Int64} {a_open : Nat → Int32} {a_serial : Nat → Int32} {a_start : Nat → Int32} {a_readMask : Nat → Int64} {a_writeMask : Nat → Int64} {a_dirty : Nat → Int64} {a_writes : Nat → Int32} {a_writeKey : Nat → Int32} {a_writeValue : Nat → Int32} {a_writeThere : Nat → Int32} {a_writeBefore : Nat → Int32} {a_lastWrite : Nat → Int32} {a_saves : Nat → Int32} {a_saveAt : Nat → Int32} {a_trackNumber : Nat → Int32} {a_trackRead : Nat → Int64} {a_trackWrite : Nat → Int64} {a_trackIn : Nat → Int32} {a_trackOut : Nat → Int32} {a_logKey : Nat → Int32} {a_logValue : Nat → Int32} {a_logThere : Nat → Int32} {a_logStamp : Nat → Int32} {a_baseValue : Nat → Int32}
theorem xw_takeBack_go {post : SX → Prop} {K : Nat → Nat} {s left : Nat} (hs : s < 4) (hK : ∀ j, a_writeKey j = nI (K j)) (hK6 : ∀ j, K j < 64) : ∀ d f (N : Nat → Nat) (w l : Nat → Int32) (m : Nat → Int64), N s = left + d → d < f → wi_v K N w a_writeBefore l m → (∀ w' l' m', wi_v K (un_u N s left) w' a_writeBefore l' m' → post (f_group, f_present, f_freeVersion, f_freeCount, f_tracked, f_logLength, f_baseMask, f_commits, f_durable, a_newest, a_verValue, a_verThere, a_verStamp, a_verOlder, a_fenwick, a_open, a_serial, a_start, a_readMask, m', a_dirty, w', a_writeKey, a_writeValue, a_writeThere, a_writeBefore, l', a_saves, a_saveAt, a_trackNumber, a_trackRead, a_trackWrite, a_trackIn, a_trackOut, a_logKey, a_logValue, a_logThere, a_logStamp, a_baseValue)) → wX_takeBack_0 post (nI s) (nI left) f_group f_present f_freeVersion f_freeCount f_tracked f_logLength f_baseMask f_commits f_durable f a_newest a_verValue a_verThere a_verStamp a_verOlder a_fenwick a_open a_serial a_start a_readMask m a_dirty w a_writeKey a_writeValue a_writeThere a_writeBefore l a_saves a_saveAt a_trackNumber a_trackRead a_trackWrite a_trackIn a_trackOut a_logKey a_logValue a_logThere a_logStamp a_baseValue := by
  have in4 : vp_in (nI s) 4 := vp_in_nI hs (by decide)
  intro d
  induction d with
  | zero =>
    intro f N w l m hN hf hw hp
    obtain ⟨f, rfl⟩ : ∃ q, f = q + 1 := ⟨f - 1, by omega⟩
    have n12 := hw.2.1 s
    rw [un_id (f := N) (k := s) (x := left) (by omega)] at hp
    refine ⟨in4, br_t ?_ (hp w l m hw)⟩
    rw [rd_i hw.1 (by omega)]
    exact nI_le (by omega) (by omega)
  | succ d ih =>
    intro f N w l m hN hf hw hp
    obtain ⟨f, rfl⟩ : ∃ q, f = q + 1 := ⟨f - 1, by omega⟩
    have n12 := hw.2.1 s
    have hN' : N s = (left + d) + 1 := by omega
    generalize hq : left + d = q at *
    have k64 := hK6 (12 * s + q)
    have rw1 : w (nI s).toNatClampNeg = nI (q + 1) := by rw [rd_i hw.1 (by omega), hN']
    have rw2 : ((w (nI s).toNatClampNeg) - 1).toInt8.toInt32 = nI q := by rw [rw1, nI_pred]; exact nr_8 q (by omega)
    have rb : a_writeBefore (nI (12 * s + q)).toNatClampNeg = nI (ow_n K s q (K (12 * s + q))) := by
      rw [nI_clamp (by omega)]; exact hw.2.2.2.1 s hs q (by omega)
    have ob := ow_le (K := K) (s := s) (k := K (12 * s + q)) q
    have in48 : vp_in (nI (12 * s + q)) 48 := vp_in_nI (by omega) (by decide)
    have e64 : 64 * nI s + nI (K (12 * s + q)) = nI (64 * s + K (12 * s + q)) := ix_64 _ _
    have in256 : vp_in (64 * nI s + nI (K (12 * s + q))) 256 := by rw [e64]; exact vp_in_nI (by omega) (by decide)
    have hp' : ∀ w' l' m', wi_v K (un_u (un_u N s q) s left) w' a_writeBefore l' m' → post (f_group, f_present, f_freeVersion, f_freeCount, f_tracked, f_logLength, f_baseMask, f_commits, f_durable, a_newest, a_verValue, a_verThere, a_verStamp, a_verOlder, a_fenwick, a_open, a_serial, a_start, a_readMask, m', a_dirty, w', a_writeKey, a_writeValue, a_writeThere, a_writeBefore, l', a_saves, a_saveAt, a_trackNumber, a_trackRead, a_trackWrite, a_trackIn, a_trackOut, a_logKey, a_logValue, a_logThere, a_logStamp, a_baseValue) := by
      rw [un_two]; exact hp
    have hm5 := hw.2.2.2.2
    refine ⟨in4, br_f ?_ ⟨in4, in4, nm_r (e' := upd w s (nI q)) (wr_i (by omega) ?_) (nm_r (e' := nI (12 * s + q)) ?_ ⟨in48, nm_r (e' := nI (K (12 * s + q))) (rd_i hK (by omega)) ⟨in48, in256, nm_r (e' := upd l (64 * s + K (12 * s + q)) (nI (ow_n K s q (K (12 * s + q))))) ?_ ⟨in48, br_c (fun z => ⟨in4, xw_bit ⟨in4, nm_r (e' := vp_updL m s (ws_t K s q)) (wr_l (by omega) ?_) ?_⟩⟩) (fun z => ?_)⟩⟩⟩)⟩⟩
    · rw [rw1]; exact nI_ge (by omega) (by omega)
    · rw [rw2]; exact nr_b (by omega)
    · rw [rw2, ix_12']
    · rw [e64, rb]; exact wr_i (by omega) (nr_b (by omega))
    · rw [rb, nr_eq0 (by omega)] at z
      rw [nI_clamp (by omega), hm5 s hs, hN']; exact wi_m0 hK6 z
    · refine ih f (un_u N s q) _ _ _ (by rw [un_s]) (by omega) (wi_back hK6 hw hs hN' ?_) hp'
      intro t ht
      by_cases e : t = s
      · rw [e, pk_uLs, un_s]
      · rw [pk_uLn e, un_n e]; exact hm5 t ht
    · rw [rb, nr_eq0 (by omega)] at z
      refine ih f (un_u N s q) _ _ _ (by rw [un_s]) (by omega) (wi_back hK6 hw hs hN' ?_) hp'
      intro t ht
      by_cases e : t = s
      · rw [e, un_s, hm5 s hs, hN']; exact wi_m1 hK6 (by omega)
      · rw [un_n e]; exact hm5 t ht
theorem xw_takeBack {post : SX → Prop} {K N : Nat → Nat} {s left : Nat} (hs : s < 4) (hK : ∀ j, a_writeKey j = nI (K j)) (hK6 : ∀ j, K j < 64) (hl : left ≤ N s) (hw : wi_v K N a_writes a_writeBefore a_lastWrite a_writeMask) (hp : ∀ w' l' m', wi_v K (un_u N s left) w' a_writeBefore l' m' → post (f_group, f_present, f_freeVersion, f_freeCount, f_tracked, f_logLength, f_baseMask, f_commits, f_durable, a_newest, a_verValue, a_verThere, a_verStamp, a_verOlder, a_fenwick, a_open, a_serial, a_start, a_readMask, m', a_dirty, w', a_writeKey, a_writeValue, a_writeThere, a_writeBefore, l', a_saves, a_saveAt, a_trackNumber, a_trackRead, a_trackWrite, a_trackIn, a_trackOut, a_logKey, a_logValue, a_logThere, a_logStamp, a_baseValue)) : wpX_takeBack post (f_group, f_present, f_freeVersion, f_freeCount, f_tracked, f_logLength, f_baseMask, f_commits, f_durable, a_newest, a_verValue, a_verThere, a_verStamp, a_verOlder, a_fenwick, a_open, a_serial, a_start, a_readMask, a_writeMask, a_dirty, a_writes, a_writeKey, a_writeValue, a_writeThere, a_writeBefore, a_lastWrite, a_saves, a_saveAt, a_trackNumber, a_trackRead, a_trackWrite, a_trackIn, a_trackOut, a_logKey, a_logValue, a_logThere, a_logStamp, a_baseValue) (nI s) (nI left) := by
  unfold wpX_takeBack
  exact ⟨N s - left + 1, xw_takeBack_go hs hK hK6 (N s - left) _ N _ _ _ (by omega) (by omega) hw hp⟩
theorem xw_locked_go {post : Int32 → Prop} {s k : Nat} (hs : s < 4) (hk : k < 64) (hp : post (bl_i (mb_b (lk_m a_writeMask s 4) k))) : ∀ d i f, i + d = 4 → d < f → wX_locked_5 post (nI s) (nI k) f_group f_present f_freeVersion f_freeCount f_tracked f_logLength f_baseMask f_commits f_durable a_newest a_verValue a_verThere a_verStamp a_verOlder a_fenwick a_open a_serial a_start a_readMask a_writeMask a_dirty a_writes a_writeKey a_writeValue a_writeThere a_writeBefore a_lastWrite a_saves a_saveAt a_trackNumber a_trackRead a_trackWrite a_trackIn a_trackOut a_logKey a_logValue a_logThere a_logStamp a_baseValue f (lk_m a_writeMask s i) (nI i) := by
  intro d
  induction d with
  | zero =>
    intro i f hi hf
    obtain ⟨f, rfl⟩ : ∃ q, f = q + 1 := ⟨f - 1, by omega⟩
    obtain rfl : i = 4 := by omega
    refine br_t (by decide) (xw_bit (br_c (fun z => ?_) (fun z => ?_)))
    · rw [(mb_t0 hk _).mp z] at hp; exact hp
    · rw [(mb_t1 hk _).mp z] at hp; exact hp
  | succ d ih =>
    intro i f hi hf
    obtain ⟨f, rfl⟩ : ∃ q, f = q + 1 := ⟨f - 1, by omega⟩
    have IH := ih (i + 1) f (by omega) (by omega)
    refine br_f (nI_ge (b := 4) (by omega) (by decide)) (pk_eq i s (fun e => nm_r (e' := lk_m a_writeMask s (i + 1)) ?_ (nm_r (nI_1 i) IH)) (fun e => ⟨vp_in_nI (by omega) (by decide), nm_r (e' := lk_m a_writeMask s (i + 1)) ?_ (nm_r (nI_1 i) IH)⟩))
    · show _ = lk_m a_writeMask s i ||| (if i = s then 0 else a_writeMask i)
      rw [if_pos e]
    · show _ = lk_m a_writeMask s i ||| (if i = s then 0 else a_writeMask i)
      rw [if_neg e, nI_clamp (by omega)]
theorem xw_locked {post : Int32 → Prop} {s k : Nat} (hs : s < 4) (hk : k < 64) (hp : post (bl_i (mb_b (lk_m a_writeMask s 4) k))) : wpX_locked post (f_group, f_present, f_freeVersion, f_freeCount, f_tracked, f_logLength, f_baseMask, f_commits, f_durable, a_newest, a_verValue, a_verThere, a_verStamp, a_verOlder, a_fenwick, a_open, a_serial, a_start, a_readMask, a_writeMask, a_dirty, a_writes, a_writeKey, a_writeValue, a_writeThere, a_writeBefore, a_lastWrite, a_saves, a_saveAt, a_trackNumber, a_trackRead, a_trackWrite, a_trackIn, a_trackOut, a_logKey, a_logValue, a_logThere, a_logStamp, a_baseValue) (nI s) (nI k) := by
  unfold wpX_locked
  exact ⟨5, xw_locked_go hs hk hp 4 0 5 (by omega) (by omega)⟩
theorem xw_own {post : Int32 → Prop} {K N : Nat → Nat} {s k : Nat} (hs : s < 4) (hk : k < 64) (hw : wi_v K N a_writes a_writeBefore a_lastWrite a_writeMask) (hp : post (nI (ow_n K s (N s) k))) : wpX_own post (f_group, f_present, f_freeVersion, f_freeCount, f_tracked, f_logLength, f_baseMask, f_commits, f_durable, a_newest, a_verValue, a_verThere, a_verStamp, a_verOlder, a_fenwick, a_open, a_serial, a_start, a_readMask, a_writeMask, a_dirty, a_writes, a_writeKey, a_writeValue, a_writeThere, a_writeBefore, a_lastWrite, a_saves, a_saveAt, a_trackNumber, a_trackRead, a_trackWrite, a_trackIn, a_trackOut, a_logKey, a_logValue, a_logThere, a_logStamp, a_baseValue) (nI s) (nI k) := by
  unfold wpX_own
  have e64 : 64 * nI s + nI k = nI (64 * s + k) := ix_64 _ _
  rw [e64]
  refine ⟨vp_in_nI (by omega) (by decide), ?_⟩
  rw [nI_clamp (by omega), hw.2.2.1 s hs k hk]
  exact hp
theorem xw_noteRead {post : SX → Prop} {s : Nat} {x : Int64} (hs : s < 4) (hp : post (f_group, f_present, f_freeVersion, f_freeCount, f_tracked, f_logLength, f_baseMask, f_commits, f_durable, a_newest, a_verValue, a_verThere, a_verStamp, a_verOlder, a_fenwick, a_open, a_serial, a_start, vp_updL a_readMask s (a_readMask s ||| (x &&& (a_writeMask s ^^^ (-1)))), a_writeMask, a_dirty, a_writes, a_writeKey, a_writeValue, a_writeThere, a_writeBefore, a_lastWrite, a_saves, a_saveAt, a_trackNumber, a_trackRead, a_trackWrite, a_trackIn, a_trackOut, a_logKey, a_logValue, a_logThere, a_logStamp, a_baseValue)) : wpX_noteRead post (f_group, f_present, f_freeVersion, f_freeCount, f_tracked, f_logLength, f_baseMask, f_commits, f_durable, a_newest, a_verValue, a_verThere, a_verStamp, a_verOlder, a_fenwick, a_open, a_serial, a_start, a_readMask, a_writeMask, a_dirty, a_writes, a_writeKey, a_writeValue, a_writeThere, a_writeBefore, a_lastWrite, a_saves, a_saveAt, a_trackNumber, a_trackRead, a_trackWrite, a_trackIn, a_trackOut, a_logKey, a_logValue, a_logThere, a_logStamp, a_baseValue) (nI s) x := by
  unfold wpX_noteRead
  have in4 : vp_in (nI s) 4 := vp_in_nI hs (by decide)
  refine ⟨in4, in4, in4, nm_r (wr_l (by omega) ?_) hp⟩
  rw [nI_clamp (by omega)]
theorem xw_horizon_go {post : Int32 → Prop} {st : Nat → Nat} {x1 : Int32} {b C : Nat} (hC : C < 2 ^ 31) (hb : ∀ s, s < 4 → (nI s = x1 ↔ s = b)) (hst : ∀ s, a_start s = nI (st s)) (hsb : ∀ s, st s < 2 ^ 31) (ho : bl_ok a_open) (hsr : bl_ok a_serial) (hp : ∀ h, h ≤ C → (∀ m, m ≤ C → (h < m ↔ li_v a_open a_serial st b m)) → post (nI h)) : ∀ d i f h, i + d = 4 → d < f → h ≤ C → (∀ m, m ≤ C → (h < m ↔ ∃ s, s < i ∧ s ≠ b ∧ a_open s ≠ 0 ∧ a_serial s ≠ 0 ∧ st s < m)) → wX_horizon_7 post x1 f_group f_present f_freeVersion f_freeCount f_tracked f_logLength f_baseMask f_commits f_durable a_newest a_verValue a_verThere a_verStamp a_verOlder a_fenwick a_open a_serial a_start a_readMask a_writeMask a_dirty a_writes a_writeKey a_writeValue a_writeThere a_writeBefore a_lastWrite a_saves a_saveAt a_trackNumber a_trackRead a_trackWrite a_trackIn a_trackOut a_logKey a_logValue a_logThere a_logStamp a_baseValue f (nI h) (nI i) := by
  intro d
  induction d with
  | zero =>
    intro i f h hi hf hh hm
    obtain ⟨f, rfl⟩ : ∃ q, f = q + 1 := ⟨f - 1, by omega⟩
    obtain rfl : i = 4 := by omega
    exact br_t (by decide) (hp h hh hm)
  | succ d ih =>
    intro i f h hi hf hh hm
    obtain ⟨f, rfl⟩ : ∃ q, f = q + 1 := ⟨f - 1, by omega⟩
    have in4 : vp_in (nI i) 4 := vp_in_nI (by omega) (by decide)
    have ro : a_open (nI i).toNatClampNeg = bl_i (bl_b (a_open i)) := by rw [nI_clamp (by omega)]; exact bl_e (ho i)
    have rs : a_serial (nI i).toNatClampNeg = bl_i (bl_b (a_serial i)) := by rw [nI_clamp (by omega)]; exact bl_e (hsr i)
    have rt : a_start (nI i).toNatClampNeg = nI (st i) := rd_i hst (by omega)
    have bt := hsb i
    have keep : ¬ (i ≠ b ∧ a_open i ≠ 0 ∧ a_serial i ≠ 0 ∧ st i < h) → wX_horizon_7 post x1 f_group f_present f_freeVersion f_freeCount f_tracked f_logLength f_baseMask f_commits f_durable a_newest a_verValue a_verThere a_verStamp a_verOlder a_fenwick a_open a_serial a_start a_readMask a_writeMask a_dirty a_writes a_writeKey a_writeValue a_writeThere a_writeBefore a_lastWrite a_saves a_saveAt a_trackNumber a_trackRead a_trackWrite a_trackIn a_trackOut a_logKey a_logValue a_logThere a_logStamp a_baseValue f (nI h) (nI (i + 1)) := by
      intro z
      refine ih (i + 1) f h (by omega) (by omega) hh ?_
      intro m hmC
      rw [hm m hmC]
      constructor
      · rintro ⟨s, a, q⟩; exact ⟨s, by omega, q⟩
      · rintro ⟨s, a, q⟩
        by_cases e : s = i
        · subst e
          have c : h ≤ st s := by
            apply Decidable.byContradiction
            intro y
            exact z ⟨q.1, q.2.1, q.2.2.1, by omega⟩
          exact (hm m hmC).mp (by omega)
        · exact ⟨s, by omega, q⟩
    have main : ∀ z : Bool, (z = true ↔ i ≠ b) → wX_horizon_22 post (wX_horizon_7 post x1 f_group f_present f_freeVersion f_freeCount f_tracked f_logLength f_baseMask f_commits f_durable a_newest a_verValue a_verThere a_verStamp a_verOlder a_fenwick a_open a_serial a_start a_readMask a_writeMask a_dirty a_writes a_writeKey a_writeValue a_writeThere a_writeBefore a_lastWrite a_saves a_saveAt a_trackNumber a_trackRead a_trackWrite a_trackIn a_trackOut a_logKey a_logValue a_logThere a_logStamp a_baseValue f) x1 (nI h) (nI i) (bl_i z) f_group f_present f_freeVersion f_freeCount f_tracked f_logLength f_baseMask f_commits f_durable a_newest a_verValue a_verThere a_verStamp a_verOlder a_fenwick a_open a_serial a_start a_readMask a_writeMask a_dirty a_writes a_writeKey a_writeValue a_writeThere a_writeBefore a_lastWrite a_saves a_saveAt a_trackNumber a_trackRead a_trackWrite a_trackIn a_trackOut a_logKey a_logValue a_logThere a_logStamp a_baseValue := by
      intro z hz
      unfold wX_horizon_22
      refine ⟨in4, in4, ?_⟩
      rw [ro, rs, bl_and, bl_and, bl_0]
      refine br_c (fun y => nm_r (nI_1 i) (keep ?_)) (fun y => ⟨in4, pk_le h (st i) (fun q => nm_r (nI_1 i) (keep ?_)) (fun q => ⟨in4, nm_r rt (nm_r (nI_1 i) ?_)⟩) rfl rt⟩)
      · intro q
        rw [hz.mpr q.1, bl_bt q.2.1, bl_bt q.2.2.1] at y
        exact absurd y (by decide)
      · intro q2; exact absurd q2.2.2.2 (by omega)
      · have y2 := bo_nf y
        rw [Bool.and_eq_true, Bool.and_eq_true] at y2
        have oi : a_open i ≠ 0 := fun e => by rw [bl_bf e] at y2; exact absurd y2.1.2 (by decide)
        have si : a_serial i ≠ 0 := fun e => by rw [bl_bf e] at y2; exact absurd y2.2 (by decide)
        refine ih (i + 1) f (st i) (by omega) (by omega) (by omega) ?_
        intro m hmC
        constructor
        · intro a; exact ⟨i, by omega, hz.mp y2.1.1, oi, si, a⟩
        · rintro ⟨s, a, g⟩
          by_cases e : s = i
          · rw [← e]; exact g.2.2.2
          · have := (hm m hmC).mpr ⟨s, by omega, g⟩
            omega
    refine br_f (nI_ge (b := 4) (by omega) (by decide)) (br_c (fun e => main false ?_) (fun e => main true ?_))
    · exact ⟨fun y => absurd y (by decide), fun y => absurd ((hb i (by omega)).mp e) y⟩
    · exact ⟨fun _ y => e ((hb i (by omega)).mpr y), fun _ => rfl⟩
theorem xw_horizon {post : Int32 → Prop} {st : Nat → Nat} {x1 : Int32} {b C : Nat} (hC : C < 2 ^ 31) (hc : f_commits = nI C) (hb : ∀ s, s < 4 → (nI s = x1 ↔ s = b)) (hst : ∀ s, a_start s = nI (st s)) (hsb : ∀ s, st s < 2 ^ 31) (ho : bl_ok a_open) (hsr : bl_ok a_serial) (hp : ∀ h, h ≤ C → (∀ m, m ≤ C → (h < m ↔ li_v a_open a_serial st b m)) → post (nI h)) : wpX_horizon post (f_group, f_present, f_freeVersion, f_freeCount, f_tracked, f_logLength, f_baseMask, f_commits, f_durable, a_newest, a_verValue, a_verThere, a_verStamp, a_verOlder, a_fenwick, a_open, a_serial, a_start, a_readMask, a_writeMask, a_dirty, a_writes, a_writeKey, a_writeValue, a_writeThere, a_writeBefore, a_lastWrite, a_saves, a_saveAt, a_trackNumber, a_trackRead, a_trackWrite, a_trackIn, a_trackOut, a_logKey, a_logValue, a_logThere, a_logStamp, a_baseValue) x1 := by
  unfold wpX_horizon
  refine ⟨5, ?_⟩
  subst hc
  refine xw_horizon_go hC hb hst hsb ho hsr hp 4 0 5 C (by omega) (by omega) (by omega) ?_
  intro m hm
  exact ⟨fun a => absurd a (by omega), fun ⟨s, a, _⟩ => absurd a (by omega)⟩
theorem xw_needed_go {post : Int32 → Prop} {st vs : Nat → Nat} {o w : Nat} (ho4 : o < 344) (hw4 : w < 344) (hst : ∀ s, a_start s = nI (st s)) (hsb : ∀ s, st s < 2 ^ 31) (hvs : ∀ j, a_verStamp j = nI (vs j)) (hvb : ∀ j, vs j < 2 ^ 31) (ho : bl_ok a_open) (hp : post (bl_i (pb_p (∃ s, s < 4 ∧ a_open s ≠ 0 ∧ vs o ≤ st s ∧ st s < vs w)))) : ∀ d i f, i + d = 4 → d < f → wX_needed_5 post (nI o) (nI w) f_group f_present f_freeVersion f_freeCount f_tracked f_logLength f_baseMask f_commits f_durable a_newest a_verValue a_verThere a_verStamp a_verOlder a_fenwick a_open a_serial a_start a_readMask a_writeMask a_dirty a_writes a_writeKey a_writeValue a_writeThere a_writeBefore a_lastWrite a_saves a_saveAt a_trackNumber a_trackRead a_trackWrite a_trackIn a_trackOut a_logKey a_logValue a_logThere a_logStamp a_baseValue f (bl_i (pb_p (∃ s, s < i ∧ a_open s ≠ 0 ∧ vs o ≤ st s ∧ st s < vs w))) (nI i) := by
  intro d
  induction d with
  | zero =>
    intro i f hi hf
    obtain ⟨f, rfl⟩ : ∃ q, f = q + 1 := ⟨f - 1, by omega⟩
    obtain rfl : i = 4 := by omega
    exact br_t (by decide) ⟨bl_n _, hp⟩
  | succ d ih =>
    intro i f hi hf
    obtain ⟨f, rfl⟩ : ∃ q, f = q + 1 := ⟨f - 1, by omega⟩
    have IH := ih (i + 1) f (by omega) (by omega)
    have in4 : vp_in (nI i) 4 := vp_in_nI (by omega) (by decide)
    have ro : a_open (nI i).toNatClampNeg = bl_i (bl_b (a_open i)) := by rw [nI_clamp (by omega)]; exact bl_e (ho i)
    have rt : a_start (nI i).toNatClampNeg = nI (st i) := rd_i hst (by omega)
    have r1 : a_verStamp (nI o).toNatClampNeg = nI (vs o) := rd_i hvs (by omega)
    have r2 : a_verStamp (nI w).toNatClampNeg = nI (vs w) := rd_i hvs (by omega)
    have b1 := hsb i
    have b2 := hvb o
    have b3 := hvb w
    have bop : bl_b (a_open i) = true ↔ a_open i ≠ 0 := ⟨fun h => of_decide_eq_true h, fun h => decide_eq_true h⟩
    have main : ∀ z : Bool, (z = true ↔ vs o ≤ st i) → wX_needed_40 post (wX_needed_5 post (nI o) (nI w) f_group f_present f_freeVersion f_freeCount f_tracked f_logLength f_baseMask f_commits f_durable a_newest a_verValue a_verThere a_verStamp a_verOlder a_fenwick a_open a_serial a_start a_readMask a_writeMask a_dirty a_writes a_writeKey a_writeValue a_writeThere a_writeBefore a_lastWrite a_saves a_saveAt a_trackNumber a_trackRead a_trackWrite a_trackIn a_trackOut a_logKey a_logValue a_logThere a_logStamp a_baseValue f) (nI o) (nI w) (nI i) (bl_i z) (a_open (nI i).toNatClampNeg) (bl_i (pb_p (∃ s, s < i ∧ a_open s ≠ 0 ∧ vs o ≤ st s ∧ st s < vs w))) f_group f_present f_freeVersion f_freeCount f_tracked f_logLength f_baseMask f_commits f_durable a_newest a_verValue a_verThere a_verStamp a_verOlder a_fenwick a_open a_serial a_start a_readMask a_writeMask a_dirty a_writes a_writeKey a_writeValue a_writeThere a_writeBefore a_lastWrite a_saves a_saveAt a_trackNumber a_trackRead a_trackWrite a_trackIn a_trackOut a_logKey a_logValue a_logThere a_logStamp a_baseValue := by
      intro z hz
      unfold wX_needed_40
      refine ⟨in4, vp_in_nI hw4 (by decide), ?_⟩
      rw [ro]
      refine pk_le (vs w) (st i) (fun q => nm_r (e' := bl_i (pb_p (∃ s, s < i + 1 ∧ a_open s ≠ 0 ∧ vs o ≤ st s ∧ st s < vs w))) ?_ (nm_r (nI_1 i) IH)) (fun q => nm_r (e' := bl_i (pb_p (∃ s, s < i + 1 ∧ a_open s ≠ 0 ∧ vs o ≤ st s ∧ st s < vs w))) ?_ (nm_r (nI_1 i) IH)) r2 rt
      · have e := ex_s (Q := fun s => a_open s ≠ 0 ∧ vs o ≤ st s ∧ st s < vs w) (i := i) (b := (bl_b (a_open i) && z) && false) ⟨fun y => by rw [Bool.and_false] at y; exact absurd y (by decide), fun y => absurd y.2.2 (by omega)⟩
        rw [← bl_and, ← bl_and] at e
        exact e
      · have e := ex_s (Q := fun s => a_open s ≠ 0 ∧ vs o ≤ st s ∧ st s < vs w) (i := i) (b := (bl_b (a_open i) && z) && true) (by rw [Bool.and_true, Bool.and_eq_true, bop, hz]; exact ⟨fun y => ⟨y.1, y.2, q⟩, fun y => ⟨y.1, y.2.1⟩⟩)
        rw [← bl_and, ← bl_and] at e
        exact e
    refine br_f (nI_ge (b := 4) (by omega) (by decide)) ⟨in4, in4, vp_in_nI ho4 (by decide), pk_lt (st i) (vs o) (fun q => main false ?_) (fun q => main true ?_) rt r1⟩
    · exact ⟨fun y => absurd y (by decide), fun y => absurd y (by omega)⟩
    · exact ⟨fun _ => q, fun _ => rfl⟩
theorem xw_needed {post : Int32 → Prop} {st vs : Nat → Nat} {o w : Nat} (ho4 : o < 344) (hw4 : w < 344) (hst : ∀ s, a_start s = nI (st s)) (hsb : ∀ s, st s < 2 ^ 31) (hvs : ∀ j, a_verStamp j = nI (vs j)) (hvb : ∀ j, vs j < 2 ^ 31) (ho : bl_ok a_open) (hp : post (bl_i (pb_p (∃ s, s < 4 ∧ a_open s ≠ 0 ∧ vs o ≤ st s ∧ st s < vs w)))) : wpX_needed post (f_group, f_present, f_freeVersion, f_freeCount, f_tracked, f_logLength, f_baseMask, f_commits, f_durable, a_newest, a_verValue, a_verThere, a_verStamp, a_verOlder, a_fenwick, a_open, a_serial, a_start, a_readMask, a_writeMask, a_dirty, a_writes, a_writeKey, a_writeValue, a_writeThere, a_writeBefore, a_lastWrite, a_saves, a_saveAt, a_trackNumber, a_trackRead, a_trackWrite, a_trackIn, a_trackOut, a_logKey, a_logValue, a_logThere, a_logStamp, a_baseValue) (nI o) (nI w) := by
  unfold wpX_needed
  have g : wX_needed_5 post (nI o) (nI w) f_group f_present f_freeVersion f_freeCount f_tracked f_logLength f_baseMask f_commits f_durable a_newest a_verValue a_verThere a_verStamp a_verOlder a_fenwick a_open a_serial a_start a_readMask a_writeMask a_dirty a_writes a_writeKey a_writeValue a_writeThere a_writeBefore a_lastWrite a_saves a_saveAt a_trackNumber a_trackRead a_trackWrite a_trackIn a_trackOut a_logKey a_logValue a_logThere a_logStamp a_baseValue 5 (bl_i (pb_p (∃ s, s < 0 ∧ a_open s ≠ 0 ∧ vs o ≤ st s ∧ st s < vs w))) (nI 0) := xw_needed_go ho4 hw4 hst hsb hvs hvb ho hp 4 0 5 (by omega) (by omega)
  rw [ex_0] at g
  exact ⟨5, g⟩
end
end
section
/-! versions: chains, views, the sums in blocks: pure -/
def ck_l (od : Nat → Nat) : Nat → List Nat → Prop
  | x, [] => x = 0
  | x, v :: l => x = v ∧ 0 < v ∧ v < 344 ∧ ck_l od (od v) l
theorem ck_c {od od' : Nat → Nat} : ∀ (l : List Nat) (x : Nat), (∀ w, w ∈ l → od' w = od w) → ck_l od x l → ck_l od' x l
  | [], _, _, h => h
  | v :: l, x, hw, h => by
    obtain ⟨a, b, c, d⟩ := h
    refine ⟨a, b, c, ?_⟩
    rw [hw v (List.mem_cons_self ..)]
    exact ck_c l _ (fun w hm => hw w (List.mem_cons_of_mem _ hm)) d
theorem ck_b {od : Nat → Nat} {x : Nat} {l : List Nat} (h : ck_l od x l) : x < 344 := by
  cases l with
  | nil => have : x = 0 := h; omega
  | cons v l => obtain ⟨a, b, c, d⟩ := h; omega
/-- the second behind a is taken out -/
theorem ck_r {od od' : Nat → Nat} {a b : Nat} {rest : List Nat} (ha : od' a = od b) (hr : ∀ w, w ∈ rest → od' w = od w) : ∀ (pre : List Nat) (x : Nat), (∀ w, w ∈ pre → od' w = od w) → ck_l od x (pre ++ a :: b :: rest) → ck_l od' x (pre ++ a :: rest)
  | [], x, _, h => by
    obtain ⟨h1, h2, h3, h4, h5, h6, h7⟩ := h
    refine ⟨h1, h2, h3, ?_⟩
    rw [ha]
    exact ck_c rest _ hr h7
  | v :: pre, x, hp, h => by
    obtain ⟨h1, h2, h3, h4⟩ := h
    refine ⟨h1, h2, h3, ?_⟩
    rw [hp v (List.mem_cons_self ..)]
    exact ck_r ha hr pre _ (fun w hm => hp w (List.mem_cons_of_mem _ hm)) h4
/-- a place in a chain: what it is linked to -/
theorem ck_at {od : Nat → Nat} {a : Nat} {rest : List Nat} : ∀ (pre : List Nat) (x : Nat), ck_l od x (pre ++ a :: rest) → 0 < a ∧ a < 344 ∧ ck_l od (od a) rest
  | [], x, h => ⟨h.2.1, h.2.2.1, h.2.2.2⟩
  | v :: pre, x, h => ck_at pre _ h.2.2.2
def ck_h (vt vv : Nat → Int32) : List Nat → Option Int32
  | [] => none
  | v :: _ => ov_l (vt v) (vv v)
theorem ck_hc {vt vt' vv vv' : Nat → Int32} (l : List Nat) (h : ∀ w, w ∈ l → vt' w = vt w ∧ vv' w = vv w) : ck_h vt' vv' l = ck_h vt vv l := by
  cases l with
  | nil => rfl
  | cons v l =>
    have := h v (List.mem_cons_self ..)
    show ov_l (vt' v) (vv' v) = ov_l (vt v) (vv v)
    rw [this.1, this.2]
def vw_m (vs : Nat → Nat) (vt vv : Nat → Int32) (m : Nat) : List Nat → Option Int32
  | [] => none
  | v :: l => if vs v ≤ m then ov_l (vt v) (vv v) else vw_m vs vt vv m l
theorem vw_c {vs vs' : Nat → Nat} {vt vt' vv vv' : Nat → Int32} {m : Nat} : ∀ l : List Nat, (∀ w, w ∈ l → vs' w = vs w ∧ vt' w = vt w ∧ vv' w = vv w) → vw_m vs' vt' vv' m l = vw_m vs vt vv m l
  | [], _ => rfl
  | v :: l, h => by
    obtain ⟨a, b, c⟩ := h v (List.mem_cons_self ..)
    show (if vs' v ≤ m then ov_l (vt' v) (vv' v) else vw_m vs' vt' vv' m l) = (if vs v ≤ m then ov_l (vt v) (vv v) else vw_m vs vt vv m l)
    rw [a, b, c, vw_c l (fun w hm => h w (List.mem_cons_of_mem _ hm))]
/-- a version that m does not see between its neighbours goes: the view stays -/
theorem vw_r {vs : Nat → Nat} {vt vv : Nat → Int32} {m a b : Nat} {rest : List Nat} (h : ¬ (vs b ≤ m ∧ m < vs a)) : ∀ pre : List Nat, vw_m vs vt vv m (pre ++ a :: rest) = vw_m vs vt vv m (pre ++ a :: b :: rest)
  | [] => by
    show (if vs a ≤ m then ov_l (vt a) (vv a) else vw_m vs vt vv m rest) = (if vs a ≤ m then ov_l (vt a) (vv a) else (if vs b ≤ m then ov_l (vt b) (vv b) else vw_m vs vt vv m rest))
    by_cases c : vs a ≤ m
    · rw [if_pos c, if_pos c]
    · rw [if_neg c, if_neg c, if_neg (fun z => h ⟨z, by omega⟩)]
  | v :: pre => by
    show (if vs v ≤ m then ov_l (vt v) (vv v) else vw_m vs vt vv m (pre ++ a :: rest)) = (if vs v ≤ m then ov_l (vt v) (vv v) else vw_m vs vt vv m (pre ++ a :: b :: rest))
    rw [vw_r h pre]
theorem vw_h {vs : Nat → Nat} {vt vv : Nat → Int32} {m : Nat} (l : List Nat) (h : ∀ v, v ∈ l → vs v ≤ m) : vw_m vs vt vv m l = ck_h vt vv l := by
  cases l with
  | nil => rfl
  | cons v l => exact if_pos (h v (List.mem_cons_self ..))
def ls_m (LL : Nat → List Nat) : Nat → Nat
  | 0 => 0
  | n + 1 => ls_m LL n + (LL n).length
theorem ls_c {L M : Nat → List Nat} : ∀ n, (∀ j, j < n → (L j).length = (M j).length) → ls_m L n = ls_m M n
  | 0, _ => rfl
  | n + 1, h => by show ls_m L n + _ = ls_m M n + _; rw [ls_c n (fun j hj => h j (by omega)), h n (by omega)]
theorem ls_u {L : Nat → List Nat} {k : Nat} {l : List Nat} : ∀ n, k < n → ls_m (un_u L k l) n + (L k).length = ls_m L n + l.length
  | 0, h => absurd h (by omega)
  | n + 1, h => by
    show ls_m (un_u L k l) n + (un_u L k l n).length + (L k).length = ls_m L n + (L n).length + l.length
    by_cases c : k = n
    · subst c
      rw [un_s, ls_c (M := L) k (fun j hj => by rw [un_n (by omega)])]
      omega
    · rw [un_n (fun z => c z.symm)]
      have := ls_u (L := L) (k := k) (l := l) n (by omega)
      omega
theorem ls_b {L : Nat → List Nat} {b : Nat} : ∀ n, (∀ j, j < n → (L j).length ≤ b) → ls_m L n ≤ n * b
  | 0, _ => by simp [ls_m]
  | n + 1, h => by
    show ls_m L n + (L n).length ≤ (n + 1) * b
    have := ls_b n (fun j hj => h j (by omega))
    have := h n (by omega)
    rw [Nat.add_mul]
    omega
/-- the links: chains 0 .. 63, the free ones as chain 64, each version in one of them -/
def vl_k (nw od : Nat → Nat) (fv : Nat) (LL : Nat → List Nat) : Prop :=
  (∀ k, k < 64 → ck_l od (nw k) (LL k)) ∧ ck_l od fv (LL 64) ∧ (∃ ow : Nat → Nat, ∀ k, k ≤ 64 → ∀ v, v ∈ LL k → ow v = k) ∧ (∀ k, k ≤ 64 → (LL k).Nodup) ∧ ls_m LL 65 = 343
theorem vl_ins {nw od : Nat → Nat} {fv v k : Nat} {F : List Nat} {LL : Nat → List Nat} (h : vl_k nw od fv LL) (hk : k < 64) (hF : LL 64 = v :: F) : (fv = v ∧ 0 < v ∧ v < 344) ∧ (∀ j, j < 64 → ∀ w, w ∈ LL j → w ≠ v) ∧ vl_k (un_u nw k v) (un_u od v (nw k)) (od v) (un_u (un_u LL 64 F) k (v :: LL k)) := by
  obtain ⟨h1, h2, ⟨ow, h3⟩, h4, h5⟩ := h
  rw [hF] at h2
  obtain ⟨e1, e2, e3, e4⟩ := h2
  have ov : ow v = 64 := h3 64 (by omega) v (by rw [hF]; exact List.mem_cons_self ..)
  have hne : ∀ j, j < 64 → ∀ w, w ∈ LL j → w ≠ v := by
    intro j hj w hm z
    have := h3 j (by omega) w hm
    rw [z, ov] at this
    omega
  have nd := h4 64 (by omega)
  rw [hF] at nd
  have nF : ∀ w, w ∈ F → w ≠ v := by
    intro w hm z
    rw [z] at hm
    exact (List.nodup_cons.mp nd).1 hm
  refine ⟨⟨e1, e2, e3⟩, hne, ?_, ?_, ⟨un_u ow v k, ?_⟩, ?_, ?_⟩
  · intro j hj
    by_cases c : j = k
    · subst c
      rw [un_s, un_s]
      refine ⟨rfl, e2, e3, ?_⟩
      rw [un_s]
      exact ck_c _ _ (fun w hm => un_n (hne j hj w hm)) (h1 j hj)
    · rw [un_n c, un_n c, un_n (by omega)]
      exact ck_c _ _ (fun w hm => un_n (hne j hj w hm)) (h1 j hj)
  · rw [un_n (by omega), un_s]
    exact ck_c _ _ (fun w hm => un_n (nF w hm)) e4
  · intro j hj w hm
    by_cases c : j = k
    · subst c
      rw [un_s] at hm
      rcases List.mem_cons.mp hm with q | q
      · rw [q, un_s]
      · rw [un_n (hne j (by omega) w q)]; exact h3 j hj w q
    · rw [un_n c] at hm
      by_cases d : j = 64
      · subst d
        rw [un_s] at hm
        rw [un_n (nF w hm)]
        exact h3 64 hj w (by rw [hF]; exact List.mem_cons_of_mem _ hm)
      · rw [un_n d] at hm
        rw [un_n (hne j (by omega) w hm)]
        exact h3 j hj w hm
  · intro j hj
    by_cases c : j = k
    · subst c
      rw [un_s]
      exact List.nodup_cons.mpr ⟨fun z => hne j (by omega) v z rfl, h4 j hj⟩
    · rw [un_n c]
      by_cases d : j = 64
      · subst d; rw [un_s]; exact (List.nodup_cons.mp nd).2
      · rw [un_n d]; exact h4 j hj
  · have a := ls_u (L := un_u LL 64 F) (k := k) (l := v :: LL k) 65 (by omega)
    have b := ls_u (L := LL) (k := 64) (l := F) 65 (by omega)
    rw [un_n (by omega)] at a
    rw [hF] at b
    simp only [List.length_cons] at a b
    omega
theorem vl_rel {nw od : Nat → Nat} {fv a b k : Nat} {pre rest : List Nat} {LL : Nat → List Nat} (h : vl_k nw od fv LL) (hk : k < 64) (hL : LL k = pre ++ a :: b :: rest) : vl_k nw (un_u (un_u od a (od b)) b fv) b (un_u (un_u LL 64 (b :: LL 64)) k (pre ++ a :: rest)) := by
  obtain ⟨h1, h2, ⟨ow, h3⟩, h4, h5⟩ := h
  have c1 := h1 k hk
  rw [hL] at c1
  have ia : a ∈ LL k := by rw [hL]; simp
  have ib : b ∈ LL k := by rw [hL]; simp
  have oa := h3 k (by omega) a ia
  have ob := h3 k (by omega) b ib
  have nd := h4 k (by omega)
  rw [hL] at nd
  have nd1 := List.nodup_append.mp nd
  have nd2 := List.nodup_cons.mp nd1.2.1
  have nd3 := List.nodup_cons.mp nd2.2
  have nab : a ≠ b := fun z => nd2.1 (by rw [z]; exact List.mem_cons_self ..)
  have npa : ∀ w, w ∈ pre → w ≠ a ∧ w ≠ b := by
    intro w hw
    exact ⟨nd1.2.2 w hw a (List.mem_cons_self ..), nd1.2.2 w hw b (List.mem_cons_of_mem _ (List.mem_cons_self ..))⟩
  have nra : ∀ w, w ∈ rest → w ≠ a ∧ w ≠ b := by
    intro w hw
    exact ⟨fun z => nd2.1 (by rw [← z]; exact List.mem_cons_of_mem _ hw), fun z => nd3.1 (by rw [← z]; exact hw)⟩
  have nother : ∀ j, j ≤ 64 → j ≠ k → ∀ w, w ∈ LL j → w ≠ a ∧ w ≠ b := by
    intro j hj hjk w hw
    have := h3 j hj w hw
    exact ⟨fun z => hjk (by rw [← this, z, oa]), fun z => hjk (by rw [← this, z, ob])⟩
  have od1 : ∀ w, w ≠ a ∧ w ≠ b → un_u (un_u od a (od b)) b fv w = od w := fun w hw => by rw [un_n hw.2, un_n hw.1]
  have bb := ck_at (a := b) (rest := rest) (pre ++ [a]) (nw k) (by rw [List.append_assoc]; exact c1)
  refine ⟨?_, ?_, ⟨un_u ow b 64, ?_⟩, ?_, ?_⟩
  · intro j hj
    by_cases c : j = k
    · subst c
      rw [un_s]
      exact ck_r (by rw [un_n nab, un_s]) (fun w hw => od1 w (nra w hw)) pre _ (fun w hw => od1 w (npa w hw)) c1
    · rw [un_n c, un_n (by omega)]
      exact ck_c _ _ (fun w hw => od1 w (nother j (by omega) c w hw)) (h1 j hj)
  · rw [un_n (by omega), un_s]
    refine ⟨rfl, bb.1, bb.2.1, ?_⟩
    rw [un_s]
    exact ck_c _ _ (fun w hw => od1 w (nother 64 (by omega) (by omega) w hw)) h2
  · intro j hj w hm
    by_cases c : j = k
    · subst c
      rw [un_s] at hm
      have nb : w ≠ b := by
        rcases List.mem_append.mp hm with q | q
        · exact (npa w q).2
        · rcases List.mem_cons.mp q with q | q
          · rw [q]; exact nab
          · exact (nra w q).2
      rw [un_n nb]
      refine h3 j hj w ?_
      rw [hL]
      rcases List.mem_append.mp hm with q | q
      · exact List.mem_append.mpr (Or.inl q)
      · rcases List.mem_cons.mp q with q | q
        · rw [q]; simp
        · simp [q]
    · rw [un_n c] at hm
      by_cases d : j = 64
      · subst d
        rw [un_s] at hm
        rcases List.mem_cons.mp hm with q | q
        · rw [q, un_s]
        · rw [un_n (nother 64 (by omega) c w q).2]; exact h3 64 hj w q
      · rw [un_n d] at hm
        rw [un_n (nother j hj c w hm).2]
        exact h3 j hj w hm
  · intro j hj
    by_cases c : j = k
    · subst c
      rw [un_s]
      refine List.nodup_append.mpr ⟨nd1.1, List.nodup_cons.mpr ⟨fun z => (nra a z).1 rfl, nd3.2⟩, ?_⟩
      intro x hx y hy
      refine nd1.2.2 x hx y ?_
      rcases List.mem_cons.mp hy with q | q
      · rw [q]; exact List.mem_cons_self ..
      · exact List.mem_cons_of_mem _ (List.mem_cons_of_mem _ q)
    · rw [un_n c]
      by_cases d : j = 64
      · subst d
        rw [un_s]
        exact List.nodup_cons.mpr ⟨fun z => (nother 64 (by omega) c b z).2 rfl, h4 64 (by omega)⟩
      · rw [un_n d]; exact h4 j hj
  · have p := ls_u (L := un_u LL 64 (b :: LL 64)) (k := k) (l := pre ++ a :: rest) 65 (by omega)
    have q := ls_u (L := LL) (k := 64) (l := b :: LL 64) 65 (by omega)
    rw [un_n (by omega), hL] at p
    simp only [List.length_cons, List.length_append] at p q
    omega
/-- every pair of neighbours is needed: then the chain is short -/
def nd_a (nd : Nat → Nat → Prop) : List Nat → Prop
  | [] => True
  | v :: l => (match l with | [] => True | w :: _ => nd w v) ∧ nd_a nd l
theorem nd_s {nd : Nat → Nat → Prop} {a b : Nat} : ∀ pre : List Nat, nd_a nd (pre ++ [a]) → nd b a → nd_a nd (pre ++ a :: [b])
  | [], _, h => ⟨h, trivial, trivial⟩
  | [v], h, g => ⟨h.1, g, trivial, trivial⟩
  | v :: w :: pre, h, g => ⟨h.1, nd_s (w :: pre) h.2 g⟩
def nd_c (op : Nat → Int32) (st : Nat → Nat) (x : Nat) : Nat := cn_t (fun s => decide (op s ≠ 0) && decide (st s < x)) 4
theorem nd_n {op : Nat → Int32} {st vs : Nat → Nat} : ∀ (l : List Nat) (a : Nat), nd_a (fun o w => ∃ s, s < 4 ∧ op s ≠ 0 ∧ vs o ≤ st s ∧ st s < vs w) (a :: l) → l.length ≤ nd_c op st (vs a)
  | [], _, _ => Nat.zero_le _
  | b :: l, a, h => by
    obtain ⟨⟨s, h1, h2, h3, h4⟩, h5⟩ := h
    have ih := nd_n l b h5
    have g : nd_c op st (vs b) + 1 ≤ nd_c op st (vs a) := by
      have m := cn_m (p := fun t => (decide (op t ≠ 0) && decide (st t < vs b)) || decide (t = s)) (q := fun t => decide (op t ≠ 0) && decide (st t < vs a)) 4 (by
        intro t _ ht
        rcases (Bool.or_eq_true _ _).mp ht with q | q
        · rw [Bool.and_eq_true] at q ⊢
          have := of_decide_eq_true q.2
          exact ⟨q.1, decide_eq_true (by omega)⟩
        · have e := of_decide_eq_true q
          subst e
          rw [Bool.and_eq_true]
          exact ⟨decide_eq_true h2, decide_eq_true h4⟩)
      have u := cn_u (p := fun t => (decide (op t ≠ 0) && decide (st t < vs b)) || decide (t = s)) (q := fun t => decide (op t ≠ 0) && decide (st t < vs b)) (k := s) (by
        show (decide (op s ≠ 0) && decide (st s < vs b)) = false
        rw [decide_eq_false (p := st s < vs b) (by omega), Bool.and_false]) (by
        show ((decide (op s ≠ 0) && decide (st s < vs b)) || decide (s = s)) = true
        rw [decide_eq_true (p := s = s) rfl, Bool.or_true]) (by
        intro j hj
        show ((decide (op j ≠ 0) && decide (st j < vs b)) || decide (j = s)) = _
        rw [decide_eq_false hj, Bool.or_false]) 4
      rw [if_pos h1] at u
      show cn_t _ 4 + 1 ≤ cn_t _ 4
      omega
    show l.length + 1 ≤ nd_c op st (vs a)
    omega
theorem nd_5 {op : Nat → Int32} {st vs : Nat → Nat} {l : List Nat} (h : nd_a (fun o w => ∃ s, s < 4 ∧ op s ≠ 0 ∧ vs o ≤ st s ∧ st s < vs w) l) : l.length ≤ 5 := by
  cases l with
  | nil => simp
  | cons a l =>
    have := nd_n l a h
    have c := cn_le (fun s => decide (op s ≠ 0) && decide (st s < vs a)) 4
    have : l.length ≤ 4 := Nat.le_trans this c
    show l.length + 1 ≤ 5
    omega
/-! the sums in blocks -/
def fw_k (fen : Nat → Int64) (cu : Nat → Option Int32) : Prop := ∀ i, 0 < i → i < 65 → fen i = is_m (fun k => wg_t (cu k)) i - is_m (fun k => wg_t (cu k)) (i - lb_t i)
theorem fw_u {fen fe : Nat → Int64} {cu : Nat → Option Int32} {p : Nat} {x : Option Int32} (h : fw_k fen cu) (g : ∀ i, 0 < i → i < 65 → fe i = fen i + (if i - lb_t i ≤ p ∧ p < i then wg_t x - wg_t (cu p) else 0)) : fw_k fe (un_u cu p x) := by
  intro i h0 h6
  have u := is_u (f := fun k => wg_t (cu k)) (g := fun k => wg_t (un_u cu p x k)) (k := p) (fun j hj => by show wg_t (un_u cu p x j) = _; rw [un_n hj])
  have e : wg_t (un_u cu p x p) = wg_t x := by rw [un_s]
  rw [g i h0 h6, h i h0 h6, u i, u (i - lb_t i)]
  show _ = _ + (if p < i then wg_t (un_u cu p x p) - wg_t (cu p) else 0) - (_ + (if p < i - lb_t i then wg_t (un_u cu p x p) - wg_t (cu p) else 0))
  rw [e]
  by_cases c : p < i
  · by_cases d : p < i - lb_t i
    · rw [if_neg (by omega), if_pos c, if_pos d]; grind
    · rw [if_pos ⟨by omega, c⟩, if_pos c, if_neg d]; grind
  · rw [if_neg (by omega), if_neg c, if_neg (by omega)]; grind
def wv_i (o : Option Int32) : Int32 := match o with
  | none => 0
  | some v => v
theorem wv_w (o : Option Int32) : (wv_i o).toInt64 = wg_t o := by
  cases o with
  | none => decide
  | some v => rfl
def vs_t (f_present : Int64) (f_freeVersion f_freeCount : Int32) (a_newest a_verValue a_verThere a_verStamp a_verOlder : Nat → Int32) (a_fenwick : Nat → Int64) (cu : Nat → Option Int32) (V : Nat → Nat → Option Int32) (B : Nat → Nat) (fc : Nat) : Prop :=
  ∃ (nw od vs : Nat → Nat) (fv : Nat) (LL : Nat → List Nat), (∀ j, a_newest j = nI (nw j)) ∧ (∀ j, a_verOlder j = nI (od j)) ∧ (∀ j, a_verStamp j = nI (vs j)) ∧ (∀ j, vs j < 2 ^ 31) ∧ f_freeVersion = nI fv ∧ f_freeCount = nI fc ∧ (LL 64).length = fc ∧ vl_k nw od fv LL ∧ (∀ k, k < 64 → ck_h a_verThere a_verValue (LL k) = cu k) ∧ (∀ k, k < 64 → ∀ m, vw_m vs a_verThere a_verValue m (LL k) = V m k) ∧ (∀ k, k < 64 → ∀ v, v ∈ LL k → vs v ≤ B k) ∧ (∀ k, k < 64 → mb_b f_present k = (cu k).isSome) ∧ fw_k a_fenwick cu
/-- the mask with the newest row's bit set or cleared -/
theorem pr_u {p : Int64} {cu : Nat → Option Int32} {k : Nat} {th v : Int32} (hk : k < 64) (h : ∀ j, j < 64 → mb_b p j = (cu j).isSome) : (th = 0 → ∀ j, j < 64 → mb_b (p &&& (mb_t k ^^^ (-1))) j = (un_u cu k (ov_l th v) j).isSome) ∧ (¬ th = 0 → ∀ j, j < 64 → mb_b (p ||| mb_t k) j = (un_u cu k (ov_l th v) j).isSome) := by
  constructor
  · intro t j hj
    rw [mb_and, mb_not hj, mb_tb hk]
    by_cases c : j = k
    · rw [c, un_s, ov_0 t, decide_eq_true rfl, Bool.not_true, Bool.and_false]; rfl
    · rw [un_n c, decide_eq_false c, Bool.not_false, Bool.and_true]; exact h j hj
  · intro t j hj
    rw [mb_or, mb_tb hk]
    by_cases c : j = k
    · rw [c, un_s, ov_1 t, decide_eq_true rfl, Bool.or_true]; rfl
    · rw [un_n c, decide_eq_false c, Bool.or_false]; exact h j hj
end
section
/-! the component's versions: walks -/
def dr_n (a : Nat → Int64) (k : Nat) : Nat → Nat → Int64
  | 0 => a
  | i + 1 => vp_updL (dr_n a k i) i (a i ||| mb_t k)
theorem dr_o {a : Nat → Int64} {k s : Nat} : ∀ i, i ≤ s → dr_n a k i s = a s
  | 0, _ => rfl
  | i + 1, h => (pk_uLn (by omega)).trans (dr_o i (by omega))
theorem dr_i {a : Nat → Int64} {k s : Nat} : ∀ i, s < i → dr_n a k i s = a s ||| mb_t k
  | 0, h => absurd h (by omega)
  | i + 1, h => by
    by_cases c : s = i
    · rw [c]; exact pk_uLs
    · exact (pk_uLn c).trans (dr_i i (by omega))
section
variable {f_group : Int32} {f_present : Int64} {f_freeVersion : Int32} {f_freeCount : Int32} {f_tracked : Int32} {f_logLength : Int32} {f_baseMask : Int64} {f_commits : Int32} {f_durable : Int32} {a_newest : Nat → Int32} {a_verValue : Nat → Int32} {a_verThere : Nat → Int32} {a_verStamp : Nat → Int32} {a_verOlder : Nat → Int32} {a_fenwick : Nat → Int64} {a_open : Nat → Int32} {a_serial : Nat → Int32} {a_start : Nat → Int32} {a_readMask : Nat → Int64} {a_writeMask : Nat → Int64} {a_dirty : Nat → Int64} {a_writes : Nat → Int32} {a_writeKey : Nat → Int32} {a_writeValue : Nat → Int32} {a_writeThere : Nat → Int32} {a_writeBefore : Nat → Int32} {a_lastWrite : Nat → Int32} {a_saves : Nat → Int32} {a_saveAt : Nat → Int32} {a_trackNumber : Nat → Int32} {a_trackRead : Nat → Int64} {a_trackWrite : Nat → Int64} {a_trackIn : Nat → Int32} {a_trackOut : Nat → Int32} {a_logKey : Nat → Int32} {a_logValue : Nat → Int32} {a_logThere : Nat → Int32} {a_logStamp : Nat → Int32} {a_baseValue : Nat → Int32} {cu : Nat → Option Int32} {V : Nat → Nat → Option Int32} {B : Nat → Nat} {fc : Nat}
theorem xw_weight {post : Int32 → Prop} {k : Nat} (S : vs_t f_present f_freeVersion f_freeCount a_newest a_verValue a_verThere a_verStamp a_verOlder a_fenwick cu V B fc) (hk : k < 64) (hp : post (wv_i (cu k))) : wpX_weight post (f_group, f_present, f_freeVersion, f_freeCount, f_tracked, f_logLength, f_baseMask, f_commits, f_durable, a_newest, a_verValue, a_verThere, a_verStamp, a_verOlder, a_fenwick, a_open, a_serial, a_start, a_readMask, a_writeMask, a_dirty, a_writes, a_writeKey, a_writeValue, a_writeThere, a_writeBefore, a_lastWrite, a_saves, a_saveAt, a_trackNumber, a_trackRead, a_trackWrite, a_trackIn, a_trackOut, a_logKey, a_logValue, a_logThere, a_logStamp, a_baseValue) (nI k) := by
  obtain ⟨nw, od, vs, fv, LL, h1, h2, h3, h4, h5, h6, h7, h8, h9, h10, h11, h12, h13⟩ := S
  have c := h8.1 k hk
  have e := h9 k hk
  unfold wpX_weight
  refine ⟨vp_in_nI hk (by decide), nm_r (rd_i h1 (by omega)) ?_⟩
  cases hl : LL k with
  | nil =>
    rw [hl] at c e
    have z : nw k = 0 := c
    rw [← e] at hp
    rw [z]
    exact br_t (by decide) hp
  | cons v l =>
    rw [hl] at c e
    obtain ⟨c1, c2, c3, c4⟩ := c
    rw [← e] at hp
    have in3 : vp_in (nI v) 344 := vp_in_nI c3 (by decide)
    rw [c1]
    refine br_f (nI_nle c2 (by omega)) ⟨in3, br_c (fun t => ?_) (fun t => ⟨in3, ?_⟩)⟩
    · rw [nI_clamp (by omega)] at t
      rw [show ck_h a_verThere a_verValue (v :: l) = ov_l (a_verThere v) (a_verValue v) from rfl, ov_0 t] at hp
      exact hp
    · rw [nI_clamp (by omega)] at t
      rw [show ck_h a_verThere a_verValue (v :: l) = ov_l (a_verThere v) (a_verValue v) from rfl, ov_1 t] at hp
      rw [nI_clamp (by omega)]
      exact hp
theorem xw_below_go {post : Int64 → Prop} {k : Nat} (hF : fw_k a_fenwick cu) (hk : k < 65) (hp : post (is_m (fun k => wg_t (cu k)) k)) : ∀ f q x, q < f → q ≤ k → x = is_m (fun k => wg_t (cu k)) k - is_m (fun k => wg_t (cu k)) q → wX_below_5 post f_group f_present f_freeVersion f_freeCount f_tracked f_logLength f_baseMask f_commits f_durable a_newest a_verValue a_verThere a_verStamp a_verOlder a_fenwick a_open a_serial a_start a_readMask a_writeMask a_dirty a_writes a_writeKey a_writeValue a_writeThere a_writeBefore a_lastWrite a_saves a_saveAt a_trackNumber a_trackRead a_trackWrite a_trackIn a_trackOut a_logKey a_logValue a_logThere a_logStamp a_baseValue f x (nI q) := by
  intro f
  induction f with
  | zero => intro q x h; exact absurd h (by omega)
  | succ f ih =>
    intro q x hf hq hx
    by_cases c : q = 0
    · subst c
      have e : x = is_m (fun k => wg_t (cu k)) k := by rw [hx, show is_m (fun k => wg_t (cu k)) 0 = 0 from rfl]; grind
      rw [e]
      exact br_t (by decide) hp
    · obtain ⟨l1, l2, l3⟩ := lb_1 q (by omega) (by omega)
      refine br_f (nI_nle (by omega) (by omega)) ⟨vp_in_nI (by omega) (by decide), nm_e (nm_r (e' := nI (q - lb_t q)) ?_ ?_)⟩
      · rw [l1, pk_sub l3]
      · refine ih (q - lb_t q) _ (by omega) (by omega) ?_
        rw [nI_clamp (by omega), hF q (by omega) (by omega), hx]
        grind
theorem xw_below {post : Int64 → Prop} {k : Nat} (S : vs_t f_present f_freeVersion f_freeCount a_newest a_verValue a_verThere a_verStamp a_verOlder a_fenwick cu V B fc) (hk : k < 65) (hp : post (is_m (fun k => wg_t (cu k)) k)) : wpX_below post (f_group, f_present, f_freeVersion, f_freeCount, f_tracked, f_logLength, f_baseMask, f_commits, f_durable, a_newest, a_verValue, a_verThere, a_verStamp, a_verOlder, a_fenwick, a_open, a_serial, a_start, a_readMask, a_writeMask, a_dirty, a_writes, a_writeKey, a_writeValue, a_writeThere, a_writeBefore, a_lastWrite, a_saves, a_saveAt, a_trackNumber, a_trackRead, a_trackWrite, a_trackIn, a_trackOut, a_logKey, a_logValue, a_logThere, a_logStamp, a_baseValue) (nI k) := by
  obtain ⟨nw, od, vs, fv, LL, h1, h2, h3, h4, h5, h6, h7, h8, h9, h10, h11, h12, h13⟩ := S
  unfold wpX_below
  exact ⟨k + 1, xw_below_go h13 hk hp (k + 1) k 0 (by omega) (by omega) (by grind)⟩
theorem xw_vAt_go {post : Int32 → Prop} {od vs : Nat → Nat} {m : Nat} {o : Option Int32} (h2 : ∀ j, a_verOlder j = nI (od j)) (h3 : ∀ j, a_verStamp j = nI (vs j)) (h4 : ∀ j, vs j < 2 ^ 31) (hm : m < 2 ^ 31) (hp0 : o = none → post 0) (hp1 : ∀ v, 0 < v → v < 344 → o = ov_l (a_verThere v) (a_verValue v) → post (nI v)) : ∀ (l : List Nat) (x f : Nat), l.length < f → ck_l od x l → vw_m vs a_verThere a_verValue m l = o → wX_versionAt_7 post (nI m) f_group f_present f_freeVersion f_freeCount f_tracked f_logLength f_baseMask f_commits f_durable a_newest a_verValue a_verThere a_verStamp a_verOlder a_fenwick a_open a_serial a_start a_readMask a_writeMask a_dirty a_writes a_writeKey a_writeValue a_writeThere a_writeBefore a_lastWrite a_saves a_saveAt a_trackNumber a_trackRead a_trackWrite a_trackIn a_trackOut a_logKey a_logValue a_logThere a_logStamp a_baseValue f (nI x) := by
  intro l
  induction l with
  | nil =>
    intro x f hf hc he
    obtain ⟨f, rfl⟩ : ∃ q, f = q + 1 := ⟨f - 1, by omega⟩
    have z : x = 0 := hc
    rw [z]
    exact br_t (by decide) (hp0 he.symm)
  | cons v l ih =>
    intro x f hf hc he
    obtain ⟨f, rfl⟩ : ∃ q, f = q + 1 := ⟨f - 1, by omega⟩
    obtain ⟨c1, c2, c3, c4⟩ := hc
    rw [c1]
    have in3 : vp_in (nI v) 344 := vp_in_nI c3 (by decide)
    have b := h4 v
    have he2 : (if vs v ≤ m then ov_l (a_verThere v) (a_verValue v) else vw_m vs a_verThere a_verValue m l) = o := he
    refine br_f (nI_nle c2 (by omega)) ⟨in3, pk_le (vs v) m (fun q => ?_) (fun q => ⟨in3, nm_r (rd_i h2 (by omega)) ?_⟩) (rd_i h3 (by omega)) rfl⟩
    · rw [if_pos q] at he2
      exact hp1 v c2 c3 he2.symm
    · rw [if_neg (by omega)] at he2
      exact ih (od v) f (by simp at hf; omega) c4 he2
theorem xw_versionAt {post : Int32 → Prop} {k m : Nat} (S : vs_t f_present f_freeVersion f_freeCount a_newest a_verValue a_verThere a_verStamp a_verOlder a_fenwick cu V B fc) (hk : k < 64) (hm : m < 2 ^ 31) (hp0 : V m k = none → post 0) (hp1 : ∀ v, 0 < v → v < 344 → V m k = ov_l (a_verThere v) (a_verValue v) → post (nI v)) : wpX_versionAt post (f_group, f_present, f_freeVersion, f_freeCount, f_tracked, f_logLength, f_baseMask, f_commits, f_durable, a_newest, a_verValue, a_verThere, a_verStamp, a_verOlder, a_fenwick, a_open, a_serial, a_start, a_readMask, a_writeMask, a_dirty, a_writes, a_writeKey, a_writeValue, a_writeThere, a_writeBefore, a_lastWrite, a_saves, a_saveAt, a_trackNumber, a_trackRead, a_trackWrite, a_trackIn, a_trackOut, a_logKey, a_logValue, a_logThere, a_logStamp, a_baseValue) (nI k) (nI m) := by
  obtain ⟨nw, od, vs, fv, LL, h1, h2, h3, h4, h5, h6, h7, h8, h9, h10, h11, h12, h13⟩ := S
  unfold wpX_versionAt
  exact ⟨vp_in_nI hk (by decide), nm_r (rd_i h1 (by omega)) ⟨(LL k).length + 1, xw_vAt_go h2 h3 h4 hm hp0 hp1 (LL k) (nw k) _ (by omega) (h8.1 k hk) (h10 k hk m)⟩⟩
/-- the newest row's version: what is there and its value -/
theorem xw_newest {k : Nat} (S : vs_t f_present f_freeVersion f_freeCount a_newest a_verValue a_verThere a_verStamp a_verOlder a_fenwick cu V B fc) (hk : k < 64) : ∃ v, v < 344 ∧ a_newest k = nI v ∧ ∀ x, cu k = some x → a_verValue v = x := by
  obtain ⟨nw, od, vs, fv, LL, h1, h2, h3, h4, h5, h6, h7, h8, h9, h10, h11, h12, h13⟩ := S
  refine ⟨nw k, ck_b (h8.1 k hk), h1 k, ?_⟩
  intro x hx
  rw [← h9 k hk] at hx
  have c := h8.1 k hk
  cases hl : LL k with
  | nil => rw [hl] at hx; exact absurd hx (by intro z; exact nomatch z)
  | cons v l =>
    rw [hl] at c hx
    rw [c.1]
    have hx2 : ov_l (a_verThere v) (a_verValue v) = some x := hx
    by_cases t : a_verThere v = 0
    · rw [ov_0 t] at hx2; exact absurd hx2 (by intro z; exact nomatch z)
    · rw [ov_1 t] at hx2; exact Option.some.inj hx2
theorem xw_inst171 {post : SX → Prop} {k : Nat} (hp : post (f_group, f_present, f_freeVersion, f_freeCount, f_tracked, f_logLength, f_baseMask, f_commits, f_durable, a_newest, a_verValue, a_verThere, a_verStamp, a_verOlder, a_fenwick, a_open, a_serial, a_start, a_readMask, a_writeMask, dr_n a_dirty k 4, a_writes, a_writeKey, a_writeValue, a_writeThere, a_writeBefore, a_lastWrite, a_saves, a_saveAt, a_trackNumber, a_trackRead, a_trackWrite, a_trackIn, a_trackOut, a_logKey, a_logValue, a_logThere, a_logStamp, a_baseValue)) : ∀ d i f, i + d = 4 → d < f → wX_install_171 post (nI k) f_group f_present f_freeVersion f_freeCount f_tracked f_logLength f_baseMask f_commits f_durable f (nI i) a_newest a_verValue a_verThere a_verStamp a_verOlder a_fenwick a_open a_serial a_start a_readMask a_writeMask (dr_n a_dirty k i) a_writes a_writeKey a_writeValue a_writeThere a_writeBefore a_lastWrite a_saves a_saveAt a_trackNumber a_trackRead a_trackWrite a_trackIn a_trackOut a_logKey a_logValue a_logThere a_logStamp a_baseValue := by
  intro d
  induction d with
  | zero =>
    intro i f hi hf
    obtain ⟨f, rfl⟩ : ∃ q, f = q + 1 := ⟨f - 1, by omega⟩
    obtain rfl : i = 4 := by omega
    exact br_t (by decide) hp
  | succ d ih =>
    intro i f hi hf
    obtain ⟨f, rfl⟩ : ∃ q, f = q + 1 := ⟨f - 1, by omega⟩
    have in4 : vp_in (nI i) 4 := vp_in_nI (by omega) (by decide)
    refine br_f (nI_ge (b := 4) (by omega) (by decide)) ⟨in4, xw_bit ⟨in4, nm_r (e' := dr_n a_dirty k (i + 1)) (wr_l (by omega) ?_) (nm_r (nI_1 i) (ih (i + 1) f (by omega) (by omega)))⟩⟩
    rw [nI_clamp (by omega), dr_o i (Nat.le_refl _)]
theorem xw_inst135 {post : SX → Prop} {p : Nat} {x7 : Int64} (hp6 : p < 64) (hp : ∀ fe, (∀ i, 0 < i → i < 65 → fe i = a_fenwick i + (if i - lb_t i ≤ p ∧ p < i then x7 else 0)) → post (f_group, f_present, f_freeVersion, f_freeCount, f_tracked, f_logLength, f_baseMask, f_commits, f_durable, a_newest, a_verValue, a_verThere, a_verStamp, a_verOlder, fe, a_open, a_serial, a_start, a_readMask, a_writeMask, dr_n a_dirty p 4, a_writes, a_writeKey, a_writeValue, a_writeThere, a_writeBefore, a_lastWrite, a_saves, a_saveAt, a_trackNumber, a_trackRead, a_trackWrite, a_trackIn, a_trackOut, a_logKey, a_logValue, a_logThere, a_logStamp, a_baseValue)) : ∀ f q fe, 65 < q + f → 0 < f → p < q → (q < 65 → q - lb_t q ≤ p) → (∀ i, 0 < i → i < 65 → fe i = if i < q then a_fenwick i + (if i - lb_t i ≤ p ∧ p < i then x7 else 0) else a_fenwick i) → q < 200 → wX_install_135 post (nI p) x7 f_group f_present f_freeVersion f_freeCount f_tracked f_logLength f_baseMask f_commits f_durable f (nI q) a_newest a_verValue a_verThere a_verStamp a_verOlder fe a_open a_serial a_start a_readMask a_writeMask a_dirty a_writes a_writeKey a_writeValue a_writeThere a_writeBefore a_lastWrite a_saves a_saveAt a_trackNumber a_trackRead a_trackWrite a_trackIn a_trackOut a_logKey a_logValue a_logThere a_logStamp a_baseValue := by
  intro f
  induction f with
  | zero =>
    intro q fe hf hf0; exact absurd hf0 (by omega)
  | succ f ih =>
    intro q fe hf hf0 hpq hl hfe h2
    by_cases c : 64 < q
    · refine br_t (nI_lt (a := 64) c (by omega)) ⟨5, xw_inst171 (hp fe ?_) 4 0 5 (by omega) (by omega)⟩
      intro i h0 h6
      rw [hfe i h0 h6, if_pos (by omega)]
    · obtain ⟨l1, l2, l3⟩ := lb_1 q (by omega) (by omega)
      have in6 : vp_in (nI q) 65 := vp_in_nI (by omega) (by decide)
      refine br_f (nI_nlt (a := 64) (by omega) (by omega)) ⟨in6, in6, nm_r (wr_l (by omega) rfl) (nm_r (e' := nI (q + lb_t q)) ?_ ?_)⟩
      · rw [l1, nI_add]
      · refine ih (q + lb_t q) _ (by omega) (by omega) (by omega) ?_ ?_ (by omega)
        · intro h6
          have := lb_3 q (by omega) (by omega) h6
          have := hl (by omega)
          omega
        · intro i h0 h6
          by_cases e : i = q
          · subst e
            rw [pk_uLs, nI_clamp (by omega), hfe i h0 h6, if_neg (by omega), if_pos (by omega), if_pos ⟨hl h6, hpq⟩]
          · rw [pk_uLn e, hfe i h0 h6]
            by_cases d : i < q
            · rw [if_pos d, if_pos (c := i < q + lb_t q) (by omega)]
            · rw [if_neg d]
              by_cases g : i < q + lb_t q
              · have := lb_2 q (by omega) (by omega) i h6 (by omega) g
                rw [if_pos g, if_neg (by omega)]; grind
              · rw [if_neg g]
theorem xw_inst123 {post : SX → Prop} {p : Nat} {x5 z0 : Int32} {o o' : Option Int32} (hp6 : p < 64) (h5 : x5.toInt64 = wg_t o) (h0 : z0.toInt64 = wg_t o') (hp : ∀ fe, (∀ i, 0 < i → i < 65 → fe i = a_fenwick i + (if i - lb_t i ≤ p ∧ p < i then wg_t o' - wg_t o else 0)) → post (f_group, f_present, f_freeVersion, f_freeCount, f_tracked, f_logLength, f_baseMask, f_commits, f_durable, a_newest, a_verValue, a_verThere, a_verStamp, a_verOlder, fe, a_open, a_serial, a_start, a_readMask, a_writeMask, dr_n a_dirty p 4, a_writes, a_writeKey, a_writeValue, a_writeThere, a_writeBefore, a_lastWrite, a_saves, a_saveAt, a_trackNumber, a_trackRead, a_trackWrite, a_trackIn, a_trackOut, a_logKey, a_logValue, a_logThere, a_logStamp, a_baseValue)) : wX_install_123 post (nI p) x5 z0 f_group f_present f_freeVersion f_freeCount f_tracked f_logLength f_baseMask f_commits f_durable a_newest a_verValue a_verThere a_verStamp a_verOlder a_fenwick a_open a_serial a_start a_readMask a_writeMask a_dirty a_writes a_writeKey a_writeValue a_writeThere a_writeBefore a_lastWrite a_saves a_saveAt a_trackNumber a_trackRead a_trackWrite a_trackIn a_trackOut a_logKey a_logValue a_logThere a_logStamp a_baseValue := by
  unfold wX_install_123
  rw [h5, h0]
  refine nm_e (nm_r (nI_1 p) ⟨66, xw_inst135 hp6 hp 66 (p + 1) a_fenwick (by omega) (by omega) (by omega) ?_ ?_ (by omega)⟩)
  · intro h
    have := lb_1 (p + 1) h (by omega)
    omega
  · intro i h1 h2
    by_cases c : i < p + 1
    · rw [if_pos c, if_neg (by omega)]; grind
    · rw [if_neg c]
theorem xw_install {post : SX → Prop} {k st : Nat} {val th : Int32} (S : vs_t f_present f_freeVersion f_freeCount a_newest a_verValue a_verThere a_verStamp a_verOlder a_fenwick cu V B fc) (hk : k < 64) (hth : th = 0 ∨ th = 1) (hf : 0 < fc) (hst : st < 2 ^ 31) (hB : B k ≤ st) (hp : ∀ p' fv' nw' vv' vt' vs' od' fe', vs_t p' fv' (nI (fc - 1)) nw' vv' vt' vs' od' fe' (un_u cu k (ov_l th val)) (fun m j => if j = k ∧ st ≤ m then ov_l th val else V m j) (un_u B k st) (fc - 1) → post (f_group, p', fv', nI (fc - 1), f_tracked, f_logLength, f_baseMask, f_commits, f_durable, nw', vv', vt', vs', od', fe', a_open, a_serial, a_start, a_readMask, a_writeMask, dr_n a_dirty k 4, a_writes, a_writeKey, a_writeValue, a_writeThere, a_writeBefore, a_lastWrite, a_saves, a_saveAt, a_trackNumber, a_trackRead, a_trackWrite, a_trackIn, a_trackOut, a_logKey, a_logValue, a_logThere, a_logStamp, a_baseValue)) : wpX_install post (f_group, f_present, f_freeVersion, f_freeCount, f_tracked, f_logLength, f_baseMask, f_commits, f_durable, a_newest, a_verValue, a_verThere, a_verStamp, a_verOlder, a_fenwick, a_open, a_serial, a_start, a_readMask, a_writeMask, a_dirty, a_writes, a_writeKey, a_writeValue, a_writeThere, a_writeBefore, a_lastWrite, a_saves, a_saveAt, a_trackNumber, a_trackRead, a_trackWrite, a_trackIn, a_trackOut, a_logKey, a_logValue, a_logThere, a_logStamp, a_baseValue) (nI k) val th (nI st) := by
  have S0 := S
  obtain ⟨nw, od, vs, fv, LL, h1, h2, h3, h4, h5, h6, h7, h8, h9, h10, h11, h12, h13⟩ := S
  obtain ⟨v, F, hF⟩ : ∃ v F, LL 64 = v :: F := by
    cases hl : LL 64 with
    | nil => rw [hl] at h7; simp at h7; omega
    | cons v F => exact ⟨v, F, rfl⟩
  obtain ⟨⟨e1, e2, e3⟩, hne, hv⟩ := vl_ins h8 hk hF
  subst e1
  have lF : F.length = fc - 1 := by rw [hF] at h7; simp at h7; omega
  have in3 : vp_in (nI fv) 344 := vp_in_nI e3 (by decide)
  have ink : vp_in (nI k) 64 := vp_in_nI hk (by decide)
  have bn : nw k < 344 := ck_b (h8.1 k hk)
  have f64 : fc < 344 := by
    have a := h8.2.2.2.2
    have b : ls_m LL 65 = ls_m LL 64 + (LL 64).length := rfl
    omega
  have hnt : ∀ p' fe, (∀ j, j < 64 → mb_b p' j = (un_u cu k (ov_l th val) j).isSome) → fw_k fe (un_u cu k (ov_l th val)) → vs_t p' (nI (od fv)) (nI (fc - 1)) (upd a_newest k (nI fv)) (upd a_verValue fv val) (upd a_verThere fv th) (upd a_verStamp fv (nI st)) (upd a_verOlder fv (nI (nw k))) fe (un_u cu k (ov_l th val)) (fun m j => if j = k ∧ st ≤ m then ov_l th val else V m j) (un_u B k st) (fc - 1) := by
    intro p' fe hpr hfe
    have oth : ∀ j, j < 64 → j ≠ k → un_u (un_u LL 64 F) k (fv :: LL k) j = LL j := fun j hj c => by rw [un_n c, un_n (by omega)]
    refine ⟨un_u nw k fv, un_u od fv (nw k), un_u vs fv st, od fv, un_u (un_u LL 64 F) k (fv :: LL k), un_upd h1 k fv, un_upd h2 fv (nw k), un_upd h3 fv st, ?_, rfl, rfl, ?_, hv, ?_, ?_, ?_, hpr, hfe⟩
    · intro j
      by_cases c : j = fv
      · rw [c, un_s]; exact hst
      · rw [un_n c]; exact h4 j
    · rw [un_n (by omega), un_s]; exact lF
    · intro j hj
      by_cases c : j = k
      · subst c
        rw [un_s, un_s]
        show ov_l (upd a_verThere fv th fv) (upd a_verValue fv val fv) = _
        rw [pk_us, pk_us]
      · rw [oth j hj c, un_n c, ← h9 j hj]
        exact ck_hc _ (fun w hw => ⟨pk_un (hne j hj w hw), pk_un (hne j hj w hw)⟩)
    · intro j hj m
      have same : vw_m (un_u vs fv st) (upd a_verThere fv th) (upd a_verValue fv val) m (LL j) = V m j := by
        rw [← h10 j hj m]
        exact vw_c _ (fun w hw => ⟨un_n (hne j hj w hw), pk_un (hne j hj w hw), pk_un (hne j hj w hw)⟩)
      by_cases c : j = k
      · subst c
        rw [un_s]
        show (if un_u vs fv st fv ≤ m then ov_l (upd a_verThere fv th fv) (upd a_verValue fv val fv) else vw_m (un_u vs fv st) (upd a_verThere fv th) (upd a_verValue fv val) m (LL j)) = (if j = j ∧ st ≤ m then ov_l th val else V m j)
        rw [un_s, pk_us, pk_us, same]
        by_cases d : st ≤ m
        · rw [if_pos d, if_pos ⟨rfl, d⟩]
        · rw [if_neg d, if_neg (fun z => d z.2)]
      · rw [oth j hj c, same]
        exact (if_neg (fun z => c z.1)).symm
    · intro j hj w hw
      by_cases c : j = k
      · subst c
        rw [un_s] at hw ⊢
        rcases List.mem_cons.mp hw with q | q
        · rw [q, un_s]; exact Nat.le_refl _
        · rw [un_n (hne j hj w q)]; exact Nat.le_trans (h11 j hj w q) hB
      · rw [oth j hj c] at hw
        rw [un_n c, un_n (hne j hj w hw)]; exact h11 j hj w hw
  unfold wpX_install
  refine xw_weight S0 hk ?_
  rw [h5, h6]
  refine ⟨in3, nm_r (rd_i h2 (by omega)) (nm_r (e' := nI (fc - 1)) (pk_sub (b := 1) (by omega)) ⟨in3, nm_r (wr_i (by omega) rfl) ⟨in3, nm_r (wr_i (by omega) (bl_nar hth)) ⟨in3, nm_r (wr_i (by omega) rfl) ⟨ink, in3, nm_r (e' := upd a_verOlder fv (nI (nw k))) (wr_i (by omega) ?_) ⟨ink, nm_r (e' := upd a_newest k (nI fv)) (wr_i (by omega) (nr_ss (by omega))) (br_c (fun t => xw_bit (br_t t ?_)) (fun t => xw_bit (br_f t ?_)))⟩⟩⟩⟩⟩)⟩
  · rw [rd_i h1 (by omega)]; exact nr_s (by omega)
  · refine xw_inst123 hk (wv_w (cu k)) (o' := ov_l th val) (by rw [ov_0 t]; decide) (fun fe hfe => hp _ _ _ _ _ _ _ _ (hnt _ _ ((pr_u hk h12).1 t) (fw_u h13 hfe)))
  · refine xw_inst123 hk (wv_w (cu k)) (o' := ov_l th val) (by rw [ov_1 t]; rfl) (fun fe hfe => hp _ _ _ _ _ _ _ _ (hnt _ _ ((pr_u hk h12).2 t) (fw_u h13 hfe)))
end
end
section
/-! the component's clearing and vacuum -/
def cz_l (a : Nat → Int64) : Nat → Nat → Int64
  | 0 => a
  | i + 1 => vp_updL (cz_l a i) (i + 1) 0
theorem cz_i {a : Nat → Int64} {j : Nat} (h0 : 0 < j) : ∀ i, j ≤ i → cz_l a i j = 0
  | 0, h => absurd h (by omega)
  | i + 1, h => by
    by_cases c : j = i + 1
    · rw [c]; exact pk_uLs
    · exact (pk_uLn c).trans (cz_i h0 i (by omega))
theorem is_z {f : Nat → Int64} : ∀ n, (∀ j, j < n → f j = 0) → is_m f n = 0
  | 0, _ => rfl
  | n + 1, h => by rw [is_s, is_z n (fun j hj => h j (by omega)), h n (by omega)]; rfl
/-- two systems of chains: the heads and the views that matter are alike -/
def vk_r (vs : Nat → Nat) (vt vv : Nat → Int32) (op : Nat → Int32) (st B : Nat → Nat) (L0 LL : Nat → List Nat) : Prop :=
  ∀ k, k < 64 → ck_h vt vv (LL k) = ck_h vt vv (L0 k) ∧ (∀ v, v ∈ LL k → v ∈ L0 k) ∧ ∀ m, ((∃ s, s < 4 ∧ op s ≠ 0 ∧ st s = m) ∨ B k ≤ m) → vw_m vs vt vv m (LL k) = vw_m vs vt vv m (L0 k)
def vv_i (nw vs : Nat → Nat) (vt vv op : Nat → Int32) (st B : Nat → Nat) (L0 : Nat → List Nat) (ao : Nat → Int32) (fV fC : Int32) (LL : Nat → List Nat) : Prop :=
  ∃ (od : Nat → Nat) (fv fc : Nat), (∀ j, ao j = nI (od j)) ∧ fV = nI fv ∧ fC = nI fc ∧ (LL 64).length = fc ∧ vl_k nw od fv LL ∧ vk_r vs vt vv op st B L0 LL
section
variable {f_group : Int32} {f_present : Int64} {f_freeVersion : Int32} {f_freeCount : Int32} {f_tracked : Int32} {f_logLength : Int32} {f_baseMask : Int64} {f_commits : Int32} {f_durable : Int32} {a_newest : Nat → Int32} {a_verValue : Nat → Int32} {a_verThere : Nat → Int32} {a_verStamp : Nat → Int32} {a_verOlder : Nat → Int32} {a_fenwick : Nat → Int64} {a_open : Nat → Int32} {a_serial : Nat → Int32} {a_start : Nat → Int32} {a_readMask : Nat → Int64} {a_writeMask : Nat → Int64} {a_dirty : Nat → Int64} {a_writes : Nat → Int32} {a_writeKey : Nat → Int32} {a_writeValue : Nat → Int32} {a_writeThere : Nat → Int32} {a_writeBefore : Nat → Int32} {a_lastWrite : Nat → Int32} {a_saves : Nat → Int32} {a_saveAt : Nat → Int32} {a_trackNumber : Nat → Int32} {a_trackRead : Nat → Int64} {a_trackWrite : Nat → Int64} {a_trackIn : Nat → Int32} {a_trackOut : Nat → Int32} {a_logKey : Nat → Int32} {a_logValue : Nat → Int32} {a_logThere : Nat → Int32} {a_logStamp : Nat → Int32} {a_baseValue : Nat → Int32} {cu : Nat → Option Int32} {V : Nat → Nat → Option Int32} {B : Nat → Nat} {fc : Nat}
theorem xw_release {post : SX → Prop} {v fv c : Nat} (hv : v < 344) (hf : f_freeVersion = nI fv) (hfb : fv < 344) (hc : f_freeCount = nI c) (hp : post (f_group, f_present, nI v, nI (c + 1), f_tracked, f_logLength, f_baseMask, f_commits, f_durable, a_newest, a_verValue, a_verThere, a_verStamp, upd a_verOlder v (nI fv), a_fenwick, a_open, a_serial, a_start, a_readMask, a_writeMask, a_dirty, a_writes, a_writeKey, a_writeValue, a_writeThere, a_writeBefore, a_lastWrite, a_saves, a_saveAt, a_trackNumber, a_trackRead, a_trackWrite, a_trackIn, a_trackOut, a_logKey, a_logValue, a_logThere, a_logStamp, a_baseValue)) : wpX_release post (f_group, f_present, f_freeVersion, f_freeCount, f_tracked, f_logLength, f_baseMask, f_commits, f_durable, a_newest, a_verValue, a_verThere, a_verStamp, a_verOlder, a_fenwick, a_open, a_serial, a_start, a_readMask, a_writeMask, a_dirty, a_writes, a_writeKey, a_writeValue, a_writeThere, a_writeBefore, a_lastWrite, a_saves, a_saveAt, a_trackNumber, a_trackRead, a_trackWrite, a_trackIn, a_trackOut, a_logKey, a_logValue, a_logThere, a_logStamp, a_baseValue) (nI v) := by
  unfold wpX_release
  subst hf hc
  exact ⟨vp_in_nI hv (by decide), nm_r (e' := upd a_verOlder v (nI fv)) (wr_i (by omega) (nr_ss (by omega))) (nm_r (nI_1 c) hp)⟩
theorem xw_clr49 {post : SX → Prop} (hp : ∀ fv ao od, (∀ j, ao j = nI (od j)) → ck_l od fv (List.range' 1 343) → post (f_group, f_present, nI fv, nI 343, f_tracked, f_logLength, f_baseMask, f_commits, f_durable, a_newest, a_verValue, a_verThere, a_verStamp, ao, a_fenwick, a_open, a_serial, a_start, a_readMask, a_writeMask, a_dirty, a_writes, a_writeKey, a_writeValue, a_writeThere, a_writeBefore, a_lastWrite, a_saves, a_saveAt, a_trackNumber, a_trackRead, a_trackWrite, a_trackIn, a_trackOut, a_logKey, a_logValue, a_logThere, a_logStamp, a_baseValue)) : ∀ v f (od : Nat → Nat) (ao : Nat → Int32) (fv : Nat), v < f → v ≤ 343 → (∀ j, ao j = nI (od j)) → ck_l od fv (List.range' (v + 1) (343 - v)) → wX_clearVersions_49 post f (nI v) f_group f_present (nI fv) (nI (343 - v)) f_tracked f_logLength f_baseMask f_commits f_durable a_newest a_verValue a_verThere a_verStamp ao a_fenwick a_open a_serial a_start a_readMask a_writeMask a_dirty a_writes a_writeKey a_writeValue a_writeThere a_writeBefore a_lastWrite a_saves a_saveAt a_trackNumber a_trackRead a_trackWrite a_trackIn a_trackOut a_logKey a_logValue a_logThere a_logStamp a_baseValue := by
  intro v
  induction v with
  | zero =>
    intro f od ao fv hf _ ho hc
    obtain ⟨f, rfl⟩ : ∃ q, f = q + 1 := ⟨f - 1, by omega⟩
    exact br_t (by decide) (hp fv ao od ho hc)
  | succ v ih =>
    intro f od ao fv hf hv ho hc
    obtain ⟨f, rfl⟩ : ∃ q, f = q + 1 := ⟨f - 1, by omega⟩
    refine br_f (nI_nle (by omega) (by omega)) (xw_release (by omega) rfl (ck_b hc) rfl (nm_r (pk_m1 v) ?_))
    have e : 343 - (v + 1) + 1 = 343 - v := by omega
    rw [e]
    refine ih f (un_u od (v + 1) fv) _ (v + 1) (by omega) (by omega) (un_upd ho _ _) ?_
    rw [show 343 - v = (343 - (v + 1)) + 1 by omega, List.range'_succ]
    refine ⟨rfl, by omega, by omega, ?_⟩
    rw [un_s]
    refine ck_c _ _ ?_ hc
    intro w hw
    have := (List.mem_range'_1.mp hw).1
    exact un_n (by omega)
theorem xw_clr2 {post : SX → Prop} {od : Nat → Nat} (ho : ∀ j, a_verOlder j = nI (od j)) (hp : ∀ fv ao od, (∀ j, ao j = nI (od j)) → ck_l od fv (List.range' 1 343) → post (f_group, 0, nI fv, nI 343, f_tracked, f_logLength, f_baseMask, f_commits, f_durable, cp_y a_newest 0 (fun _ => 0) 64, a_verValue, a_verThere, a_verStamp, ao, cz_l a_fenwick 64, a_open, a_serial, a_start, a_readMask, a_writeMask, a_dirty, a_writes, a_writeKey, a_writeValue, a_writeThere, a_writeBefore, a_lastWrite, a_saves, a_saveAt, a_trackNumber, a_trackRead, a_trackWrite, a_trackIn, a_trackOut, a_logKey, a_logValue, a_logThere, a_logStamp, a_baseValue)) : ∀ d i f, i + d = 64 → d < f → wX_clearVersions_2 post f_group f_present f_freeVersion f_freeCount f_tracked f_logLength f_baseMask f_commits f_durable f (nI (0 + i)) (cp_y a_newest 0 (fun _ => 0) i) a_verValue a_verThere a_verStamp a_verOlder (cz_l a_fenwick i) a_open a_serial a_start a_readMask a_writeMask a_dirty a_writes a_writeKey a_writeValue a_writeThere a_writeBefore a_lastWrite a_saves a_saveAt a_trackNumber a_trackRead a_trackWrite a_trackIn a_trackOut a_logKey a_logValue a_logThere a_logStamp a_baseValue := by
  intro d
  induction d with
  | zero =>
    intro i f hi hf
    obtain ⟨f, rfl⟩ : ∃ q, f = q + 1 := ⟨f - 1, by omega⟩
    obtain rfl : i = 64 := by omega
    refine br_t (by decide) ⟨344, ?_⟩
    exact xw_clr49 hp 343 344 od _ 0 (by omega) (by omega) ho rfl
  | succ d ih =>
    intro i f hi hf
    obtain ⟨f, rfl⟩ : ∃ q, f = q + 1 := ⟨f - 1, by omega⟩
    have e : nI (0 + i) + 1 = nI (i + 1) := by rw [nI_1]; congr 1; omega
    have n0 : vp_nar .short 0 = 0 := nr_s (n := 0) (by decide)
    refine br_f (nI_ge (b := 64) (by omega) (by decide)) ⟨vp_in_nI (by omega) (by decide), nm_r (e' := cp_y a_newest 0 (fun _ => 0) (i + 1)) (wr_i (by omega) n0) ⟨?_, nm_r (e' := cz_l a_fenwick (i + 1)) ?_ (nm_r (nI_1 _) (ih (i + 1) f (by omega) (by omega)))⟩⟩
    · rw [e]; exact vp_in_nI (by omega) (by decide)
    · rw [e]; exact wr_l (by omega) rfl
theorem vl_clr {nw od : Nat → Nat} {fv : Nat} (hn : ∀ k, k < 64 → nw k = 0) (hc : ck_l od fv (List.range' 1 343)) : vl_k nw od fv (fun k => if k = 64 then List.range' 1 343 else []) := by
  have e : ∀ k, k < 64 → (fun k => if k = 64 then List.range' 1 343 else []) k = [] := fun k hk => if_neg (by omega)
  refine ⟨?_, ?_, ⟨fun _ => 64, ?_⟩, ?_, ?_⟩
  · intro k hk
    rw [e k hk]; exact hn k hk
  · rw [show (fun k => if k = 64 then List.range' 1 343 else []) 64 = List.range' 1 343 from if_pos rfl]; exact hc
  · intro k hk v hv
    by_cases c : k = 64
    · exact c.symm
    · rw [e k (by omega)] at hv; exact absurd hv (by simp)
  · intro k hk
    by_cases c : k = 64
    · rw [c]; show (if 64 = 64 then List.range' 1 343 else []).Nodup
      rw [if_pos rfl]; exact List.nodup_range'
    · rw [e k (by omega)]; exact List.nodup_nil
  · have a := ls_b (L := fun k => if k = 64 then List.range' 1 343 else []) (b := 0) 64 (fun j hj => by rw [if_neg (by omega)]; simp)
    show ls_m _ 64 + (if 64 = 64 then List.range' 1 343 else []).length = 343
    rw [if_pos rfl, List.length_range']
    omega
theorem xw_clear {post : SX → Prop} {nw od vs : Nat → Nat} (hn : ∀ j, a_newest j = nI (nw j)) (ho : ∀ j, a_verOlder j = nI (od j)) (hs : ∀ j, a_verStamp j = nI (vs j)) (hsb : ∀ j, vs j < 2 ^ 31) (hp : ∀ fV nw' ao fe, vs_t 0 fV (nI 343) nw' a_verValue a_verThere a_verStamp ao fe (fun _ => none) (fun _ _ => none) (fun _ => 0) 343 → post (f_group, 0, fV, nI 343, f_tracked, f_logLength, f_baseMask, f_commits, f_durable, nw', a_verValue, a_verThere, a_verStamp, ao, fe, a_open, a_serial, a_start, a_readMask, a_writeMask, a_dirty, a_writes, a_writeKey, a_writeValue, a_writeThere, a_writeBefore, a_lastWrite, a_saves, a_saveAt, a_trackNumber, a_trackRead, a_trackWrite, a_trackIn, a_trackOut, a_logKey, a_logValue, a_logThere, a_logStamp, a_baseValue)) : wpX_clearVersions post (f_group, f_present, f_freeVersion, f_freeCount, f_tracked, f_logLength, f_baseMask, f_commits, f_durable, a_newest, a_verValue, a_verThere, a_verStamp, a_verOlder, a_fenwick, a_open, a_serial, a_start, a_readMask, a_writeMask, a_dirty, a_writes, a_writeKey, a_writeValue, a_writeThere, a_writeBefore, a_lastWrite, a_saves, a_saveAt, a_trackNumber, a_trackRead, a_trackWrite, a_trackIn, a_trackOut, a_logKey, a_logValue, a_logThere, a_logStamp, a_baseValue) := by
  unfold wpX_clearVersions
  refine ⟨65, ?_⟩
  refine xw_clr2 ho ?_ 64 0 65 (by omega) (by omega)
  intro fv ao od' ho' hc
  apply hp
  have e : ∀ k, k < 64 → (fun k => if k = 64 then List.range' 1 343 else []) k = [] := fun k hk => if_neg (by omega)
  refine ⟨fun j => if j < 64 then 0 else nw j, od', vs, fv, fun k => if k = 64 then List.range' 1 343 else [], ?_, ho', hs, hsb, rfl, rfl, ?_, vl_clr ?_ hc, ?_, ?_, ?_, ?_, ?_⟩
  · intro j
    by_cases c : j < 64
    · show _ = nI (if j < 64 then 0 else nw j)
      have g := cp_i (a := a_newest) (H := 0) (v := fun _ => 0) (i := j) 64 c
      rw [Nat.zero_add] at g
      rw [if_pos c, g]; rfl
    · show _ = nI (if j < 64 then 0 else nw j)
      rw [if_neg c, cp_o 64 (by omega)]; exact hn j
  · show (if 64 = 64 then List.range' 1 343 else []).length = 343
    rw [if_pos rfl, List.length_range']
  · intro k hk; exact if_pos hk
  · intro k hk; rw [e k hk]; rfl
  · intro k hk m; rw [e k hk]; rfl
  · intro k hk v hv; rw [e k hk] at hv; exact absurd hv (by simp)
  · intro k hk; exact mb_0 k
  · intro i h0 h6
    have z : ∀ n, is_m (fun k => wg_t ((fun _ => none : Nat → Option Int32) k)) n = 0 := fun n => is_z n (fun _ _ => rfl)
    rw [cz_i h0 64 (by omega), z i, z (i - lb_t i)]; rfl
theorem xw_vacRow_go {post : SX → Prop} {nw vs st : Nat → Nat} {L0 : Nat → List Nat} {k : Nat} (hk : k < 64) (hst : ∀ s, a_start s = nI (st s)) (hsb : ∀ s, st s < 2 ^ 31) (hvs : ∀ j, a_verStamp j = nI (vs j)) (hvb : ∀ j, vs j < 2 ^ 31) (hop : bl_ok a_open) (hB : ∀ v, v ∈ L0 k → vs v ≤ B k) : ∀ (rest pre : List Nat) (a : Nat) (fV fC : Int32) (ao : Nat → Int32) (LL : Nat → List Nat) (f : Nat), LL k = pre ++ a :: rest → rest.length < f → vv_i nw vs a_verThere a_verValue a_open st B L0 ao fV fC LL → nd_a (fun o w => ∃ s, s < 4 ∧ a_open s ≠ 0 ∧ vs o ≤ st s ∧ st s < vs w) (pre ++ [a]) → (∀ fV' fC' ao' LL', vv_i nw vs a_verThere a_verValue a_open st B L0 ao' fV' fC' LL' → nd_a (fun o w => ∃ s, s < 4 ∧ a_open s ≠ 0 ∧ vs o ≤ st s ∧ st s < vs w) (LL' k) → (∀ j, j < 64 → j ≠ k → LL' j = LL j) → post (f_group, f_present, fV', fC', f_tracked, f_logLength, f_baseMask, f_commits, f_durable, a_newest, a_verValue, a_verThere, a_verStamp, ao', a_fenwick, a_open, a_serial, a_start, a_readMask, a_writeMask, a_dirty, a_writes, a_writeKey, a_writeValue, a_writeThere, a_writeBefore, a_lastWrite, a_saves, a_saveAt, a_trackNumber, a_trackRead, a_trackWrite, a_trackIn, a_trackOut, a_logKey, a_logValue, a_logThere, a_logStamp, a_baseValue)) → wX_vacuumRow_2 post f (nI a) f_group f_present fV fC f_tracked f_logLength f_baseMask f_commits f_durable a_newest a_verValue a_verThere a_verStamp ao a_fenwick a_open a_serial a_start a_readMask a_writeMask a_dirty a_writes a_writeKey a_writeValue a_writeThere a_writeBefore a_lastWrite a_saves a_saveAt a_trackNumber a_trackRead a_trackWrite a_trackIn a_trackOut a_logKey a_logValue a_logThere a_logStamp a_baseValue := by
  intro rest
  induction rest with
  | nil =>
    intro pre a fV fC ao LL f hL hf hv hnd hp
    obtain ⟨f, rfl⟩ : ∃ q, f = q + 1 := ⟨f - 1, by omega⟩
    have hv0 := hv
    obtain ⟨od, fv, fc, g1, g2, g3, g4, g5, g6⟩ := hv
    have c := g5.1 k hk
    rw [hL] at c
    obtain ⟨c1, c2, c3⟩ := ck_at pre _ c
    have c4 : od a = 0 := c3
    refine br_f (nI_nle c1 (by omega)) ⟨vp_in_nI c2 (by decide), br_t ?_ (hp fV fC ao LL hv0 ?_ (fun _ _ _ => rfl))⟩
    · rw [rd_i g1 (by omega), c4]; decide
    · rw [hL]; exact hnd
  | cons b rest ih =>
    intro pre a fV fC ao LL f hL hf hv hnd hp
    obtain ⟨f, rfl⟩ : ∃ q, f = q + 1 := ⟨f - 1, by omega⟩
    have hv0 := hv
    obtain ⟨od, fv, fc, g1, g2, g3, g4, g5, g6⟩ := hv
    have c := g5.1 k hk
    rw [hL] at c
    obtain ⟨c1, c2, c3⟩ := ck_at pre _ c
    obtain ⟨d1, d2, d3, d4⟩ := c3
    have ra : ao (nI a).toNatClampNeg = nI b := by rw [rd_i g1 (by omega), d1]
    have ina : vp_in (nI a) 344 := vp_in_nI c2 (by decide)
    have inb : vp_in (nI b) 344 := vp_in_nI d3 (by decide)
    have hf2 : rest.length < f := by simp at hf; omega
    refine br_f (nI_nle c1 (by omega)) ⟨ina, br_f (by rw [ra]; exact nI_nle d2 (by omega)) ⟨ina, nm_r ra (xw_needed d3 c2 hst hsb hvs hvb hop ?_)⟩⟩
    by_cases nd : ∃ s, s < 4 ∧ a_open s ≠ 0 ∧ vs b ≤ st s ∧ st s < vs a
    · rw [pb_t nd]
      refine br_f (by decide) (ih (pre ++ [a]) b fV fC ao LL f (by rw [hL, List.append_assoc]; rfl) hf2 hv0 ?_ hp)
      rw [List.append_assoc]
      exact nd_s pre hnd nd
    · rw [pb_f nd]
      have fb : fv < 344 := ck_b g5.2.1
      have ob : od b < 344 := ck_b d4
      refine br_t rfl ⟨inb, ina, nm_r (e' := upd ao a (nI (od b))) (wr_i (by omega) ?_) (xw_release d3 g2 fb g3 ?_)⟩
      · rw [rd_i g1 (by omega)]; exact nr_s (by omega)
      · have aL : a ∈ LL k := by rw [hL]; simp
        have va : vs a ≤ B k := hB a ((g6 k hk).2.1 a aL)
        refine ih pre a (nI b) (nI (fc + 1)) _ (un_u (un_u LL 64 (b :: LL 64)) k (pre ++ a :: rest)) f (by rw [un_s]) hf2 ?_ hnd ?_
        · refine ⟨un_u (un_u od a (od b)) b fv, b, fc + 1, un_upd (un_upd g1 _ _) _ _, rfl, rfl, ?_, vl_rel g5 hk hL, ?_⟩
          · rw [un_n (by omega), un_s, List.length_cons, g4]
          · intro j hj
            by_cases c : j = k
            · subst c
              rw [un_s]
              obtain ⟨k1, k2, k3⟩ := g6 j hj
              rw [hL] at k1 k2 k3
              refine ⟨?_, ?_, ?_⟩
              · rw [← k1]; cases pre <;> rfl
              · intro v hvm
                apply k2
                rcases List.mem_append.mp hvm with q | q
                · exact List.mem_append.mpr (Or.inl q)
                · rcases List.mem_cons.mp q with q | q
                  · rw [q]; simp
                  · simp [q]
              · intro m hm
                rw [← k3 m hm]
                refine vw_r ?_ pre
                rintro ⟨z1, z2⟩
                rcases hm with ⟨s, s1, s2, s3⟩ | hm
                · exact nd ⟨s, s1, s2, by omega, by omega⟩
                · omega
            · rw [un_n c, un_n (by omega)]; exact g6 j hj
        · intro fV' fC' ao' LL' q1 q2 q3
          refine hp fV' fC' ao' LL' q1 q2 ?_
          intro j hj hjk
          rw [q3 j hj hjk, un_n hjk, un_n (by omega)]
theorem xw_vac_go {post : SX → Prop} {nw vs st : Nat → Nat} {L0 : Nat → List Nat} (hnw : ∀ j, a_newest j = nI (nw j)) (hst : ∀ s, a_start s = nI (st s)) (hsb : ∀ s, st s < 2 ^ 31) (hvs : ∀ j, a_verStamp j = nI (vs j)) (hvb : ∀ j, vs j < 2 ^ 31) (hop : bl_ok a_open) (hB : ∀ k, k < 64 → ∀ v, v ∈ L0 k → vs v ≤ B k) (hp : ∀ fV' fC' ao' LL', vv_i nw vs a_verThere a_verValue a_open st B L0 ao' fV' fC' LL' → (∀ k, k < 64 → (LL' k).length ≤ 5) → post (f_group, f_present, fV', fC', f_tracked, f_logLength, f_baseMask, f_commits, f_durable, a_newest, a_verValue, a_verThere, a_verStamp, ao', a_fenwick, a_open, a_serial, a_start, a_readMask, a_writeMask, a_dirty, a_writes, a_writeKey, a_writeValue, a_writeThere, a_writeBefore, a_lastWrite, a_saves, a_saveAt, a_trackNumber, a_trackRead, a_trackWrite, a_trackIn, a_trackOut, a_logKey, a_logValue, a_logThere, a_logStamp, a_baseValue)) : ∀ (d i f : Nat) (fV fC : Int32) (ao : Nat → Int32) (LL : Nat → List Nat), i + d = 64 → d < f → vv_i nw vs a_verThere a_verValue a_open st B L0 ao fV fC LL → (∀ k, k < i → nd_a (fun o w => ∃ s, s < 4 ∧ a_open s ≠ 0 ∧ vs o ≤ st s ∧ st s < vs w) (LL k)) → wX_vacuum_2 post f (nI i) f_group f_present fV fC f_tracked f_logLength f_baseMask f_commits f_durable a_newest a_verValue a_verThere a_verStamp ao a_fenwick a_open a_serial a_start a_readMask a_writeMask a_dirty a_writes a_writeKey a_writeValue a_writeThere a_writeBefore a_lastWrite a_saves a_saveAt a_trackNumber a_trackRead a_trackWrite a_trackIn a_trackOut a_logKey a_logValue a_logThere a_logStamp a_baseValue := by
  intro d
  induction d with
  | zero =>
    intro i f fV fC ao LL hi hf hv hn
    obtain ⟨f, rfl⟩ : ∃ q, f = q + 1 := ⟨f - 1, by omega⟩
    obtain rfl : i = 64 := by omega
    exact br_t (by decide) (hp fV fC ao LL hv (fun k hk => nd_5 (hn k hk)))
  | succ d ih =>
    intro i f fV fC ao LL hi hf hv hn
    obtain ⟨f, rfl⟩ : ∃ q, f = q + 1 := ⟨f - 1, by omega⟩
    refine br_f (nI_ge (b := 64) (by omega) (by decide)) ⟨vp_in_nI (by omega) (by decide), ?_⟩
    rw [rd_i hnw (by omega)]
    unfold wpX_vacuumRow
    have fin : ∀ fV' fC' ao' LL', vv_i nw vs a_verThere a_verValue a_open st B L0 ao' fV' fC' LL' → nd_a (fun o w => ∃ s, s < 4 ∧ a_open s ≠ 0 ∧ vs o ≤ st s ∧ st s < vs w) (LL' i) → (∀ j, j < 64 → j ≠ i → LL' j = LL j) → wX_vacuum_2 post f (nI (i + 1)) f_group f_present fV' fC' f_tracked f_logLength f_baseMask f_commits f_durable a_newest a_verValue a_verThere a_verStamp ao' a_fenwick a_open a_serial a_start a_readMask a_writeMask a_dirty a_writes a_writeKey a_writeValue a_writeThere a_writeBefore a_lastWrite a_saves a_saveAt a_trackNumber a_trackRead a_trackWrite a_trackIn a_trackOut a_logKey a_logValue a_logThere a_logStamp a_baseValue := by
      intro fV' fC' ao' LL' q1 q2 q3
      refine ih (i + 1) f fV' fC' ao' LL' (by omega) (by omega) q1 ?_
      intro k hk
      by_cases c : k = i
      · rw [c]; exact q2
      · rw [q3 k (by omega) c]; exact hn k (by omega)
    have hv0 := hv
    obtain ⟨od, fv, fc, g1, g2, g3, g4, g5, g6⟩ := hv
    have c := g5.1 i (by omega)
    cases hl : LL i with
    | nil =>
      rw [hl] at c
      have z : nw i = 0 := c
      rw [z]
      refine ⟨1, br_t (by decide) (nm_r (nI_1 i) (fin fV fC ao LL hv0 ?_ (fun _ _ _ => rfl)))⟩
      rw [hl]; trivial
    | cons a rest =>
      have c' := c
      rw [hl] at c'
      rw [c'.1]
      exact ⟨rest.length + 1, xw_vacRow_go (by omega) hst hsb hvs hvb hop (hB i (by omega)) rest [] a fV fC ao LL _ hl (by omega) hv0 ⟨trivial, trivial⟩ (fun fV' fC' ao' LL' q1 q2 q3 => nm_r (nI_1 i) (fin fV' fC' ao' LL' q1 q2 q3))⟩
theorem xw_vacuum {post : SX → Prop} {st : Nat → Nat} (S : vs_t f_present f_freeVersion f_freeCount a_newest a_verValue a_verThere a_verStamp a_verOlder a_fenwick cu V B fc) (hst : ∀ s, a_start s = nI (st s)) (hsb : ∀ s, st s < 2 ^ 31) (hop : bl_ok a_open) (hp : ∀ fV' ao' V' fc', vs_t f_present fV' (nI fc') a_newest a_verValue a_verThere a_verStamp ao' a_fenwick cu V' B fc' → 23 ≤ fc' → (∀ k, k < 64 → ∀ m, ((∃ s, s < 4 ∧ a_open s ≠ 0 ∧ st s = m) ∨ B k ≤ m) → V' m k = V m k) → post (f_group, f_present, fV', nI fc', f_tracked, f_logLength, f_baseMask, f_commits, f_durable, a_newest, a_verValue, a_verThere, a_verStamp, ao', a_fenwick, a_open, a_serial, a_start, a_readMask, a_writeMask, a_dirty, a_writes, a_writeKey, a_writeValue, a_writeThere, a_writeBefore, a_lastWrite, a_saves, a_saveAt, a_trackNumber, a_trackRead, a_trackWrite, a_trackIn, a_trackOut, a_logKey, a_logValue, a_logThere, a_logStamp, a_baseValue)) : wpX_vacuum post (f_group, f_present, f_freeVersion, f_freeCount, f_tracked, f_logLength, f_baseMask, f_commits, f_durable, a_newest, a_verValue, a_verThere, a_verStamp, a_verOlder, a_fenwick, a_open, a_serial, a_start, a_readMask, a_writeMask, a_dirty, a_writes, a_writeKey, a_writeValue, a_writeThere, a_writeBefore, a_lastWrite, a_saves, a_saveAt, a_trackNumber, a_trackRead, a_trackWrite, a_trackIn, a_trackOut, a_logKey, a_logValue, a_logThere, a_logStamp, a_baseValue) := by
  obtain ⟨nw, od, vs, fv, LL, h1, h2, h3, h4, h5, h6, h7, h8, h9, h10, h11, h12, h13⟩ := S
  unfold wpX_vacuum
  refine ⟨65, ?_⟩
  refine xw_vac_go (L0 := LL) h1 hst hsb h3 h4 hop h11 ?_ 64 0 65 f_freeVersion f_freeCount a_verOlder LL (by omega) (by omega) ⟨od, fv, fc, h2, h5, h6, h7, h8, fun k _ => ⟨rfl, fun _ h => h, fun _ _ => rfl⟩⟩ (fun k hk => absurd hk (by omega))
  intro fV' fC' ao' LL' hv hlen
  obtain ⟨od', fv', fc', g1, g2, g3, g4, g5, g6⟩ := hv
  subst g3
  have hl := ls_b 64 hlen
  have hs : ls_m LL' 64 + (LL' 64).length = 343 := g5.2.2.2.2
  refine hp fV' ao' (fun m k => vw_m vs a_verThere a_verValue m (LL' k)) fc' ⟨nw, od', vs, fv', LL', h1, g1, h3, h4, g2, rfl, g4, g5, ?_, fun _ _ _ => rfl, ?_, h12, h13⟩ (by omega) ?_
  · intro k hk; rw [(g6 k hk).1]; exact h9 k hk
  · intro k hk v hv; exact h11 k hk v ((g6 k hk).2.1 v hv)
  · intro k hk m hm
    rw [← h10 k hk m]
    exact (g6 k hk).2.2 m hm
end
end
section
/-! what a transaction sees, in the component -/
section
variable {f_group : Int32} {f_present : Int64} {f_freeVersion : Int32} {f_freeCount : Int32} {f_tracked : Int32} {f_logLength : Int32} {f_baseMask : Int64} {f_commits : Int32} {f_durable : Int32} {a_newest : Nat → Int32} {a_verValue : Nat → Int32} {a_verThere : Nat → Int32} {a_verStamp : Nat → Int32} {a_verOlder : Nat → Int32} {a_fenwick : Nat → Int64} {a_open : Nat → Int32} {a_serial : Nat → Int32} {a_start : Nat → Int32} {a_readMask : Nat → Int64} {a_writeMask : Nat → Int64} {a_dirty : Nat → Int64} {a_writes : Nat → Int32} {a_writeKey : Nat → Int32} {a_writeValue : Nat → Int32} {a_writeThere : Nat → Int32} {a_writeBefore : Nat → Int32} {a_lastWrite : Nat → Int32} {a_saves : Nat → Int32} {a_saveAt : Nat → Int32} {a_trackNumber : Nat → Int32} {a_trackRead : Nat → Int64} {a_trackWrite : Nat → Int64} {a_trackIn : Nat → Int32} {a_trackOut : Nat → Int32} {a_logKey : Nat → Int32} {a_logValue : Nat → Int32} {a_logThere : Nat → Int32} {a_logStamp : Nat → Int32} {a_baseValue : Nat → Int32} {cu : Nat → Option Int32} {V : Nat → Nat → Option Int32} {B : Nat → Nat} {fc : Nat} {K N : Nat → Nat} {s m : Nat}
theorem xw_sees {post : Int32 → Prop} {k : Nat} (S : vs_t f_present f_freeVersion f_freeCount a_newest a_verValue a_verThere a_verStamp a_verOlder a_fenwick cu V B fc) (W : wi_v K N a_writes a_writeBefore a_lastWrite a_writeMask) (hth : bl_ok a_writeThere) (hs : s < 4) (hst : a_start s = nI m) (hm : m < 2 ^ 31) (hd : ∀ k, k < 64 → mb_b (a_dirty s) k = false → V m k = cu k) (hk : k < 64) (hp : post (bl_i (sn_v K a_writeValue a_writeThere s (N s) k (V m k)).isSome)) : wpX_sees post (f_group, f_present, f_freeVersion, f_freeCount, f_tracked, f_logLength, f_baseMask, f_commits, f_durable, a_newest, a_verValue, a_verThere, a_verStamp, a_verOlder, a_fenwick, a_open, a_serial, a_start, a_readMask, a_writeMask, a_dirty, a_writes, a_writeKey, a_writeValue, a_writeThere, a_writeBefore, a_lastWrite, a_saves, a_saveAt, a_trackNumber, a_trackRead, a_trackWrite, a_trackIn, a_trackOut, a_logKey, a_logValue, a_logThere, a_logStamp, a_baseValue) (nI s) (nI k) := by
  have in4 : vp_in (nI s) 4 := vp_in_nI hs (by decide)
  have n12 := W.2.1 s
  have ol := ow_le (K := K) (s := s) (k := k) (N s)
  have hpr : ∀ j, j < 64 → mb_b f_present j = (cu j).isSome := by
    obtain ⟨nw, od, vs, fv, LL, h1, h2, h3, h4, h5, h6, h7, h8, h9, h10, h11, h12, h13⟩ := S
    exact h12
  unfold wpX_sees
  refine xw_own hs hk W ?_
  by_cases c : ow_n K s (N s) k = 0
  · rw [sn_0 _ c] at hp
    rw [c]
    refine br_t (by decide) ⟨in4, xw_bit ?_⟩
    rw [nI_clamp (by omega)]
    refine br_c (fun z => xw_bit ?_) (fun z => ⟨in4, ?_⟩)
    · rw [hd k hk ((mb_t0 hk _).mp z), ← hpr k hk] at hp
      refine br_c (fun y => ?_) (fun y => ?_)
      · rw [(mb_t0 hk _).mp y] at hp; exact hp
      · rw [(mb_t1 hk _).mp y] at hp; exact hp
    · rw [hst]
      refine xw_versionAt S hk hm (fun e => ?_) (fun v v0 v3 e => ?_)
      · rw [e] at hp; exact br_t (by decide) hp
      · rw [e] at hp
        refine br_f (nI_nle v0 (by omega)) ⟨vp_in_nI v3 (by decide), ?_⟩
        rw [nI_clamp (by omega)]
        refine br_c (fun t => ?_) (fun t => ?_)
        · rw [ov_0 t] at hp; exact hp
        · rw [ov_1 t] at hp; exact hp
  · rw [sn_p _ (by omega)] at hp
    have e : nI (ow_n K s (N s) k) - 1 = nI (ow_n K s (N s) k - 1) := pk_sub (b := 1) (by omega)
    refine br_f (nI_nle (by omega) (by omega)) ?_
    rw [e, nI_clamp (by omega)]
    refine ⟨vp_in_nI (by omega) (by decide), bl_nrw (hth _), ?_⟩
    rcases hth (ow_n K s (N s) k - 1) with t | t
    · rw [ov_0 t] at hp; rw [t]; exact hp
    · rw [ov_1 (by rw [t]; decide)] at hp; rw [t]; exact hp
theorem xw_valueSeen {post : Int32 → Prop} {k : Nat} {x : Int32} (S : vs_t f_present f_freeVersion f_freeCount a_newest a_verValue a_verThere a_verStamp a_verOlder a_fenwick cu V B fc) (W : wi_v K N a_writes a_writeBefore a_lastWrite a_writeMask) (hs : s < 4) (hst : a_start s = nI m) (hm : m < 2 ^ 31) (hd : ∀ k, k < 64 → mb_b (a_dirty s) k = false → V m k = cu k) (hk : k < 64) (hx : sn_v K a_writeValue a_writeThere s (N s) k (V m k) = some x) (hp : post x) : wpX_valueSeen post (f_group, f_present, f_freeVersion, f_freeCount, f_tracked, f_logLength, f_baseMask, f_commits, f_durable, a_newest, a_verValue, a_verThere, a_verStamp, a_verOlder, a_fenwick, a_open, a_serial, a_start, a_readMask, a_writeMask, a_dirty, a_writes, a_writeKey, a_writeValue, a_writeThere, a_writeBefore, a_lastWrite, a_saves, a_saveAt, a_trackNumber, a_trackRead, a_trackWrite, a_trackIn, a_trackOut, a_logKey, a_logValue, a_logThere, a_logStamp, a_baseValue) (nI s) (nI k) := by
  have in4 : vp_in (nI s) 4 := vp_in_nI hs (by decide)
  have n12 := W.2.1 s
  have ol := ow_le (K := K) (s := s) (k := k) (N s)
  unfold wpX_valueSeen
  refine xw_own hs hk W ?_
  by_cases c : ow_n K s (N s) k = 0
  · rw [sn_0 _ c] at hx
    rw [c]
    refine br_t (by decide) ⟨in4, xw_bit ?_⟩
    rw [nI_clamp (by omega)]
    refine br_c (fun z => ⟨vp_in_nI hk (by decide), ?_⟩) (fun z => ⟨in4, ?_⟩)
    · rw [hd k hk ((mb_t0 hk _).mp z)] at hx
      obtain ⟨v, v3, e1, e2⟩ := xw_newest S hk
      refine nm_r (e' := nI v) (by rw [nI_clamp (by omega)]; exact e1) ⟨vp_in_nI v3 (by decide), ?_⟩
      rw [nI_clamp (by omega), e2 x hx]; exact hp
    · rw [hst]
      refine xw_versionAt S hk hm (fun e => ?_) (fun v v0 v3 e => ?_)
      · rw [e] at hx; exact nomatch hx
      · rw [e] at hx
        refine ⟨vp_in_nI v3 (by decide), ?_⟩
        rw [nI_clamp (by omega)]
        by_cases t : a_verThere v = 0
        · rw [ov_0 t] at hx; exact nomatch hx
        · rw [ov_1 t] at hx; rw [Option.some.inj hx]; exact hp
  · rw [sn_p _ (by omega)] at hx
    have e : nI (ow_n K s (N s) k) - 1 = nI (ow_n K s (N s) k - 1) := pk_sub (b := 1) (by omega)
    refine br_f (nI_nle (by omega) (by omega)) ?_
    rw [e, nI_clamp (by omega)]
    refine ⟨vp_in_nI (by omega) (by decide), ?_⟩
    by_cases t : a_writeThere (ow_n K s (N s) k - 1) = 0
    · rw [ov_0 t] at hx; exact nomatch hx
    · rw [ov_1 t] at hx; rw [Option.some.inj hx]; exact hp
theorem xw_seenMask_go {post : Int64 → Prop} (S : vs_t f_present f_freeVersion f_freeCount a_newest a_verValue a_verThere a_verStamp a_verOlder a_fenwick cu V B fc) (W : wi_v K N a_writes a_writeBefore a_lastWrite a_writeMask) (hth : bl_ok a_writeThere) (hs : s < 4) (hst : a_start s = nI m) (hm : m < 2 ^ 31) (hd : ∀ k, k < 64 → mb_b (a_dirty s) k = false → V m k = cu k) (hp : ∀ x, (∀ j, j < 64 → mb_b x j = (sn_v K a_writeValue a_writeThere s (N s) j (V m j)).isSome) → post x) : ∀ f x2 x4, mb_n x2 < f → (∀ j, j < 64 → mb_b x2 j = false → mb_b x4 j = (sn_v K a_writeValue a_writeThere s (N s) j (V m j)).isSome) → (∀ j, j < 64 → mb_b x2 j = true → mb_b x4 j = false) → wX_seenMask_26 post (nI s) f_group f_present f_freeVersion f_freeCount f_tracked f_logLength f_baseMask f_commits f_durable a_newest a_verValue a_verThere a_verStamp a_verOlder a_fenwick a_open a_serial a_start a_readMask a_writeMask a_dirty a_writes a_writeKey a_writeValue a_writeThere a_writeBefore a_lastWrite a_saves a_saveAt a_trackNumber a_trackRead a_trackWrite a_trackIn a_trackOut a_logKey a_logValue a_logThere a_logStamp a_baseValue f x2 x4 := by
  intro f
  induction f with
  | zero => intro x2 x4 h; exact absurd h (by omega)
  | succ f ih =>
    intro x2 x4 hf h1 h2
    by_cases e : x2 = 0
    · refine br_t e (hp x4 (fun j hj => h1 j hj ?_))
      rw [e]; exact mb_0 j
    · have lt := mb_nlt e
      refine br_f e (xw_lowest e (fun k hk hb hl => nm_e (xw_sees S W hth hs hst hm hd hk ?_)))
      have clr := mb_clr hb hl
      cases hv : (sn_v K a_writeValue a_writeThere s (N s) k (V m k)).isSome
      · refine br_t rfl (ih _ _ (by omega) ?_ ?_)
        · intro j hj q
          rw [clr] at q
          by_cases c : j = k
          · rw [c, h2 k hk hb, hv]
          · rw [decide_eq_false c, Bool.not_false, Bool.and_true] at q; exact h1 j hj q
        · intro j hj q
          rw [clr, Bool.and_eq_true] at q
          exact h2 j hj q.1
      · refine br_f (by decide) (xw_bit (nm_e (ih _ _ (by omega) ?_ ?_)))
        · intro j hj q
          rw [clr] at q
          rw [mb_or, mb_tb hk]
          by_cases c : j = k
          · rw [c, decide_eq_true rfl, Bool.or_true, hv]
          · rw [decide_eq_false c, Bool.not_false, Bool.and_true] at q
            rw [decide_eq_false c, Bool.or_false]; exact h1 j hj q
        · intro j hj q
          rw [clr, Bool.and_eq_true] at q
          have c : j ≠ k := by
            intro z
            rw [decide_eq_true z] at q
            exact absurd q.2 (by decide)
          rw [mb_or, mb_tb hk, decide_eq_false c, Bool.or_false]
          exact h2 j hj q.1
theorem xw_seenMask {post : Int64 → Prop} (S : vs_t f_present f_freeVersion f_freeCount a_newest a_verValue a_verThere a_verStamp a_verOlder a_fenwick cu V B fc) (W : wi_v K N a_writes a_writeBefore a_lastWrite a_writeMask) (hK6 : ∀ j, K j < 64) (hth : bl_ok a_writeThere) (hs : s < 4) (hst : a_start s = nI m) (hm : m < 2 ^ 31) (hd : ∀ k, k < 64 → mb_b (a_dirty s) k = false → V m k = cu k) (hp : ∀ x, (∀ j, j < 64 → mb_b x j = (sn_v K a_writeValue a_writeThere s (N s) j (V m j)).isSome) → post x) : wpX_seenMask post (f_group, f_present, f_freeVersion, f_freeCount, f_tracked, f_logLength, f_baseMask, f_commits, f_durable, a_newest, a_verValue, a_verThere, a_verStamp, a_verOlder, a_fenwick, a_open, a_serial, a_start, a_readMask, a_writeMask, a_dirty, a_writes, a_writeKey, a_writeValue, a_writeThere, a_writeBefore, a_lastWrite, a_saves, a_saveAt, a_trackNumber, a_trackRead, a_trackWrite, a_trackIn, a_trackOut, a_logKey, a_logValue, a_logThere, a_logStamp, a_baseValue) (nI s) := by
  have in4 : vp_in (nI s) 4 := vp_in_nI hs (by decide)
  have hpr : ∀ j, j < 64 → mb_b f_present j = (cu j).isSome := by
    obtain ⟨nw, od, vs, fv, LL, h1, h2, h3, h4, h5, h6, h7, h8, h9, h10, h11, h12, h13⟩ := S
    exact h12
  unfold wpX_seenMask
  refine ⟨in4, in4, nm_r (e' := a_dirty s ||| a_writeMask s) (by rw [nI_clamp (by omega)]) (nm_e ⟨mb_n (a_dirty s ||| a_writeMask s) + 1, ?_⟩)⟩
  refine xw_seenMask_go S W hth hs hst hm hd hp _ _ _ (by omega) ?_ ?_
  · intro j hj q
    rw [mb_and, mb_not hj, q, Bool.not_false, Bool.and_true, hpr j hj]
    rw [mb_or, Bool.or_eq_false_iff, W.2.2.2.2 s hs, ws_b hK6] at q
    have z : ow_n K s (N s) j = 0 := by
      have := of_decide_eq_false q.2
      omega
    rw [sn_0 _ z, hd j hj q.1]
  · intro j hj q
    rw [mb_and, mb_not hj, q, Bool.not_true, Bool.and_false]
/-- a sum over a stretch with one term changed -/
theorem xw_sum_go {post : Int64 → SX → Prop} {lo hi : Nat} (S : vs_t f_present f_freeVersion f_freeCount a_newest a_verValue a_verThere a_verStamp a_verOlder a_fenwick cu V B fc) (W : wi_v K N a_writes a_writeBefore a_lastWrite a_writeMask) (hth : bl_ok a_writeThere) (hs : s < 4) (hst : a_start s = nI m) (hm : m < 2 ^ 31) (hd : ∀ k, k < 64 → mb_b (a_dirty s) k = false → V m k = cu k) (hp : post (is_m (fun j => wg_t (sn_v K a_writeValue a_writeThere s (N s) j (V m j))) (hi + 1) - is_m (fun j => wg_t (sn_v K a_writeValue a_writeThere s (N s) j (V m j))) lo) (f_group, f_present, f_freeVersion, f_freeCount, f_tracked, f_logLength, f_baseMask, f_commits, f_durable, a_newest, a_verValue, a_verThere, a_verStamp, a_verOlder, a_fenwick, a_open, a_serial, a_start, a_readMask, a_writeMask, a_dirty, a_writes, a_writeKey, a_writeValue, a_writeThere, a_writeBefore, a_lastWrite, a_saves, a_saveAt, a_trackNumber, a_trackRead, a_trackWrite, a_trackIn, a_trackOut, a_logKey, a_logValue, a_logThere, a_logStamp, a_baseValue)) : ∀ f x6 x8, mb_n x8 < f → (∀ j, mb_b x8 j = true → lo ≤ j ∧ j ≤ hi) → x6 = is_m (fun j => if mb_b x8 j = true then wg_t (cu j) else wg_t (sn_v K a_writeValue a_writeThere s (N s) j (V m j))) (hi + 1) - is_m (fun j => if mb_b x8 j = true then wg_t (cu j) else wg_t (sn_v K a_writeValue a_writeThere s (N s) j (V m j))) lo → wX_sum_84 post (nI s) f_group f_present f_freeVersion f_freeCount f_tracked f_logLength f_baseMask f_commits f_durable a_newest a_verValue a_verThere a_verStamp a_verOlder a_fenwick a_open a_serial a_start a_readMask a_writeMask a_dirty a_writes a_writeKey a_writeValue a_writeThere a_writeBefore a_lastWrite a_saves a_saveAt a_trackNumber a_trackRead a_trackWrite a_trackIn a_trackOut a_logKey a_logValue a_logThere a_logStamp a_baseValue f x6 x8 := by
  intro f
  induction f with
  | zero => intro x6 x8 h; exact absurd h (by omega)
  | succ f ih =>
    intro x6 x8 hf hb8 hx6
    by_cases e : x8 = 0
    · refine br_t e ?_
      have c : ∀ n, is_m (fun j => if mb_b x8 j = true then wg_t (cu j) else wg_t (sn_v K a_writeValue a_writeThere s (N s) j (V m j))) n = is_m (fun j => wg_t (sn_v K a_writeValue a_writeThere s (N s) j (V m j))) n := fun n => is_c n (fun j _ => by
        show (if mb_b x8 j = true then _ else _) = _
        rw [e, mb_0, if_neg (by decide)])
      rw [c, c] at hx6
      rw [hx6]; exact hp
    · have lt := mb_nlt e
      refine br_f e (xw_lowest e (fun k hk hb hl => nm_e (xw_sees S W hth hs hst hm hd hk ?_)))
      have clr := mb_clr hb hl
      obtain ⟨k1, k2⟩ := hb8 k hb
      have u := is_u (f := fun j => if mb_b x8 j = true then wg_t (cu j) else wg_t (sn_v K a_writeValue a_writeThere s (N s) j (V m j))) (g := fun j => if mb_b (x8 &&& (x8 - 1)) j = true then wg_t (cu j) else wg_t (sn_v K a_writeValue a_writeThere s (N s) j (V m j))) (k := k) (fun j hj => by
        show (if mb_b (x8 &&& (x8 - 1)) j = true then _ else _) = (if mb_b x8 j = true then _ else _)
        rw [clr, decide_eq_false hj, Bool.not_false, Bool.and_true])
      have g1 : (if mb_b (x8 &&& (x8 - 1)) k = true then wg_t (cu k) else wg_t (sn_v K a_writeValue a_writeThere s (N s) k (V m k))) = wg_t (sn_v K a_writeValue a_writeThere s (N s) k (V m k)) := by
        rw [clr, decide_eq_true rfl, Bool.not_true, Bool.and_false, if_neg (by decide)]
      have g2 : (if mb_b x8 k = true then wg_t (cu k) else wg_t (sn_v K a_writeValue a_writeThere s (N s) k (V m k))) = wg_t (cu k) := if_pos hb
      have fin : ∀ z : Int64, z = wg_t (sn_v K a_writeValue a_writeThere s (N s) k (V m k)) → wX_sum_131 post (wX_sum_84 post (nI s) f_group f_present f_freeVersion f_freeCount f_tracked f_logLength f_baseMask f_commits f_durable a_newest a_verValue a_verThere a_verStamp a_verOlder a_fenwick a_open a_serial a_start a_readMask a_writeMask a_dirty a_writes a_writeKey a_writeValue a_writeThere a_writeBefore a_lastWrite a_saves a_saveAt a_trackNumber a_trackRead a_trackWrite a_trackIn a_trackOut a_logKey a_logValue a_logThere a_logStamp a_baseValue f) (nI s) (x8 &&& (x8 - 1)) (nI k) z x6 f_group f_present f_freeVersion f_freeCount f_tracked f_logLength f_baseMask f_commits f_durable a_newest a_verValue a_verThere a_verStamp a_verOlder a_fenwick a_open a_serial a_start a_readMask a_writeMask a_dirty a_writes a_writeKey a_writeValue a_writeThere a_writeBefore a_lastWrite a_saves a_saveAt a_trackNumber a_trackRead a_trackWrite a_trackIn a_trackOut a_logKey a_logValue a_logThere a_logStamp a_baseValue := by
        intro z hz
        unfold wX_sum_131
        refine nm_e (xw_weight S hk (nm_e (ih _ _ (by omega) ?_ ?_)))
        · intro j hj
          rw [clr, Bool.and_eq_true] at hj
          exact hb8 j hj.1
        · have u1 := u (hi + 1)
          have u2 := u lo
          rw [if_pos (by omega)] at u1
          rw [if_neg (by omega)] at u2
          rw [u1, u2, wv_w, hz, hx6]
          show _ = _ + ((if mb_b (x8 &&& (x8 - 1)) k = true then wg_t (cu k) else wg_t (sn_v K a_writeValue a_writeThere s (N s) k (V m k))) - (if mb_b x8 k = true then wg_t (cu k) else wg_t (sn_v K a_writeValue a_writeThere s (N s) k (V m k)))) - _
          rw [g1, g2]
          grind
      cases hv : sn_v K a_writeValue a_writeThere s (N s) k (V m k) with
      | none => exact br_t rfl (fin 0 (by rw [hv]; rfl))
      | some x => exact br_f (show ¬ bl_i true = 0 by decide) (xw_valueSeen S W hs hst hm hd hk hv (fin _ (by rw [hv]; rfl)))
end
end
section
/-! tracked commits: pure -/
theorem ex_k {Q : Nat → Prop} {i : Nat} (h : ¬ Q i) : pb_p (∃ s, s < i + 1 ∧ Q s) = pb_p (∃ s, s < i ∧ Q s) := pb_c ⟨fun ⟨s, a, b⟩ => by
    by_cases e : s = i
    · rw [e] at b; exact absurd b h
    · exact ⟨s, by omega, b⟩, fun ⟨s, a, b⟩ => ⟨s, by omega, b⟩⟩
/-- p's numbers below N in their order, counted in two ways -/
theorem en_t (q : Nat → Bool) (p : Nat → Bool) (tn : Nat → Nat) : ∀ N t, (∀ i j, i < j → j < t → tn i < tn j) → (∀ j, j < t → tn j < N ∧ p (tn j) = true) → (∀ m, m < N → p m = true → ∃ j, j < t ∧ tn j = m) → cn_t (fun j => q (tn j)) t = cn_t (fun m => p m && q m) N := by
  intro N
  induction N with
  | zero =>
    intro t h1 h2 h3
    cases t with
    | zero => rfl
    | succ t => exact absurd (h2 0 (by omega)).1 (by omega)
  | succ N ih =>
    intro t h1 h2 h3
    rw [cn_s]
    cases hp : p N
    · rw [Bool.false_and, if_neg (by decide), Nat.add_zero]
      refine ih t h1 ?_ (fun m hm => h3 m (by omega))
      intro j hj
      obtain ⟨a, b⟩ := h2 j hj
      refine ⟨?_, b⟩
      have : tn j ≠ N := fun z => by rw [z, hp] at b; exact absurd b (by decide)
      omega
    · obtain ⟨j, hj, e⟩ := h3 N (by omega) hp
      have ej : j + 1 = t := by
        apply Decidable.byContradiction
        intro z
        have a := h1 j (t - 1) (by omega) (by omega)
        have b := (h2 (t - 1) (by omega)).1
        omega
      subst ej
      rw [cn_s, Bool.true_and, e]
      congr 1
      refine ih j (fun i k a b => h1 i k a (by omega)) ?_ ?_
      · intro i hi
        have a := h1 i j hi (by omega)
        exact ⟨by omega, (h2 i (by omega)).2⟩
      · intro m hm hpm
        obtain ⟨i, hi, ei⟩ := h3 m (by omega) hpm
        refine ⟨i, ?_, ei⟩
        have : i ≠ j := fun z => by rw [z, e] at ei; omega
        omega
def tk_i (kn : Nat → Int32) (cs : Nat → Nat) (cr cw : Nat → Int64) (C : Nat) (P : Nat → Prop) (ft : Int32) (tN : Nat → Int32) (tR tW : Nat → Int64) (tI tO : Nat → Int32) (t : Nat) (tn : Nat → Nat) : Prop :=
  ft = nI t ∧ (∀ j, j < t → tN j = nI (tn j)) ∧ (∀ i j, i < j → j < t → tn i < tn j) ∧ (∀ j, j < t → kn (tn j) ≠ 0 ∧ P (tn j) ∧ 1 ≤ tn j ∧ tn j ≤ C) ∧ (∀ m, kn m ≠ 0 → P m → ∃ j, j < t ∧ tn j = m) ∧ (∀ j, j < t → tR j = cr (tn j) ∧ tW j = cw (tn j) ∧ tI j = bl_i (pb_p (ar_in kn cs cr cw C (tn j))) ∧ tO j = bl_i (pb_p (ar_out kn cs cr cw C (tn j))))
theorem tk_p {kn : Nat → Int32} {cs : Nat → Nat} {cr cw : Nat → Int64} {C : Nat} {P Q : Nat → Prop} {ft : Int32} {tN : Nat → Int32} {tR tW : Nat → Int64} {tI tO : Nat → Int32} {t : Nat} {tn : Nat → Nat} (h : tk_i kn cs cr cw C P ft tN tR tW tI tO t tn) (hQ : ∀ m, kn m ≠ 0 → (P m ↔ Q m)) : tk_i kn cs cr cw C Q ft tN tR tW tI tO t tn := by
  obtain ⟨h1, h2, h3, h4, h5, h6⟩ := h
  refine ⟨h1, h2, h3, fun j hj => ?_, fun m a b => h5 m a ((hQ m a).mpr b), h6⟩
  obtain ⟨a, b, c⟩ := h4 j hj
  exact ⟨a, (hQ _ a).mp b, c⟩
/-- the first ones, at most h, go -/
theorem tk_g {kn : Nat → Int32} {cs : Nat → Nat} {cr cw : Nat → Int64} {C : Nat} {P : Nat → Prop} {ft ft' : Int32} {tN tN' : Nat → Int32} {tR tW tR' tW' : Nat → Int64} {tI tO tI' tO' : Nat → Int32} {t g hz : Nat} {tn : Nat → Nat} (h : tk_i kn cs cr cw C P ft tN tR tW tI tO t tn) (hg : g ≤ t) (hlo : ∀ j, j < g → tn j ≤ hz) (hhi : g < t → hz < tn g) (e0 : ft' = nI (t - g)) (e1 : ∀ j, j < t - g → tN' j = tN (j + g)) (e2 : ∀ j, j < t - g → tR' j = tR (j + g)) (e3 : ∀ j, j < t - g → tW' j = tW (j + g)) (e4 : ∀ j, j < t - g → tI' j = tI (j + g)) (e5 : ∀ j, j < t - g → tO' j = tO (j + g)) : tk_i kn cs cr cw C (fun m => P m ∧ hz < m) ft' tN' tR' tW' tI' tO' (t - g) (fun j => tn (j + g)) := by
  obtain ⟨h1, h2, h3, h4, h5, h6⟩ := h
  have up : ∀ j, j < t - g → hz < tn (j + g) := by
    intro j hj
    have a := hhi (by omega)
    by_cases c : j = 0
    · rw [c, Nat.zero_add]; exact a
    · have := h3 g (j + g) (by omega) (by omega)
      omega
  refine ⟨e0, ?_, ?_, ?_, ?_, ?_⟩
  · intro j hj; rw [e1 j hj]; exact h2 _ (by omega)
  · intro i j a b; exact h3 _ _ (by omega) (by omega)
  · intro j hj
    obtain ⟨a, b, c⟩ := h4 (j + g) (by omega)
    exact ⟨a, ⟨b, up j hj⟩, c⟩
  · rintro m a ⟨b, c⟩
    obtain ⟨j, hj, e⟩ := h5 m a b
    have : g ≤ j := by
      apply Decidable.byContradiction
      intro z
      have := hlo j (by omega)
      omega
    refine ⟨j - g, by omega, ?_⟩
    show tn (j - g + g) = m
    rw [show j - g + g = j by omega]; exact e
  · intro j hj
    obtain ⟨a, b, c, d⟩ := h6 (j + g) (by omega)
    rw [e2 j hj, e3 j hj, e4 j hj, e5 j hj]
    exact ⟨a, b, c, d⟩
/-- arrows to and from the next commit -/
theorem ar_new {kn : Nat → Int32} {cs : Nat → Nat} {cr cw : Nat → Int64} {C s0 : Nat} {rm wm : Int64} {x : Int32} (hx : x ≠ 0) (hkc : ∀ m, kn m ≠ 0 → 1 ≤ m ∧ m ≤ C ∧ cs m < m) (i j : Nat) : ar_w (upd kn (C + 1) x) (un_u cs (C + 1) s0) (vp_updL cr (C + 1) rm) (vp_updL cw (C + 1) wm) i j ↔ (ar_w kn cs cr cw i j ∨ (i = C + 1 ∧ kn j ≠ 0 ∧ s0 < j ∧ (rm &&& cw j) ≠ 0) ∨ (j = C + 1 ∧ kn i ≠ 0 ∧ s0 < i ∧ (cr i &&& wm) ≠ 0)) := by
  have k1 : kn (C + 1) = 0 := by
    apply Decidable.byContradiction
    intro z
    have := (hkc _ z).2.1
    omega
  unfold ar_w
  by_cases a : i = C + 1
  · by_cases b : j = C + 1
    · subst a; subst b
      constructor
      · intro z; exact absurd rfl z.1
      · rintro (z | z | z)
        · exact absurd rfl z.1
        · exact absurd k1 z.2.1
        · exact absurd k1 z.2.1
    · subst a
      rw [pk_us, pk_un b, un_s, un_n b, pk_uLs, pk_uLn b]
      constructor
      · rintro ⟨h1, h2, h3, h4, h5, h6⟩; exact Or.inr (Or.inl ⟨rfl, h3, h4, h6⟩)
      · rintro (z | z | z)
        · exact absurd k1 z.2.1
        · have := (hkc j z.2.1).2
          exact ⟨fun e => b e.symm, hx, z.2.1, z.2.2.1, by omega, z.2.2.2⟩
        · exact absurd z.1 b
  · by_cases b : j = C + 1
    · subst b
      rw [pk_us, pk_un a, un_s, un_n a, pk_uLs, pk_uLn a]
      constructor
      · rintro ⟨h1, h2, h3, h4, h5, h6⟩; exact Or.inr (Or.inr ⟨rfl, h2, h5, h6⟩)
      · rintro (z | z | z)
        · exact absurd k1 z.2.2.1
        · exact absurd z.1 a
        · have := (hkc i z.2.1).2
          exact ⟨a, z.2.1, hx, by omega, z.2.2.1, z.2.2.2⟩
    · rw [pk_un a, pk_un b, un_n a, un_n b, pk_uLn a, pk_uLn b]
      constructor
      · intro z; exact Or.inl z
      · rintro (z | z | z)
        · exact z
        · exact absurd z.1 a
        · exact absurd z.1 b
/-- nothing known is added: the arrows stay -/
theorem ar_same {kn : Nat → Int32} {cs : Nat → Nat} {cr cw : Nat → Int64} {C s0 : Nat} {rm wm : Int64} (k1 : kn (C + 1) = 0) (i j : Nat) : ar_w (upd kn (C + 1) 0) (un_u cs (C + 1) s0) (vp_updL cr (C + 1) rm) (vp_updL cw (C + 1) wm) i j ↔ ar_w kn cs cr cw i j := by
  unfold ar_w
  by_cases a : i = C + 1
  · subst a
    rw [pk_us]
    exact ⟨fun z => absurd rfl z.2.1, fun z => absurd k1 z.2.1⟩
  · by_cases b : j = C + 1
    · subst b
      rw [pk_us]
      exact ⟨fun z => absurd rfl z.2.2.1, fun z => absurd k1 z.2.2.1⟩
    · rw [pk_un a, pk_un b, un_n a, un_n b, pk_uLn a, pk_uLn b]
theorem tk_same {kn : Nat → Int32} {cs : Nat → Nat} {cr cw : Nat → Int64} {C C' s0 : Nat} {rm wm : Int64} {P : Nat → Prop} {ft : Int32} {tN : Nat → Int32} {tR tW : Nat → Int64} {tI tO : Nat → Int32} {t : Nat} {tn : Nat → Nat} (h : tk_i kn cs cr cw C P ft tN tR tW tI tO t tn) (hkc : ∀ m, kn m ≠ 0 → 1 ≤ m ∧ m ≤ C ∧ cs m < m) (hC : C ≤ C') : tk_i (upd kn (C + 1) 0) (un_u cs (C + 1) s0) (vp_updL cr (C + 1) rm) (vp_updL cw (C + 1) wm) C' P ft tN tR tW tI tO t tn := by
  obtain ⟨h1, h2, h3, h4, h5, h6⟩ := h
  have k1 : kn (C + 1) = 0 := by
    apply Decidable.byContradiction
    intro z
    have := (hkc _ z).2.1
    omega
  refine ⟨h1, h2, h3, ?_, ?_, ?_⟩
  · intro j hj
    obtain ⟨a, b, c, d⟩ := h4 j hj
    rw [pk_un (by omega)]
    exact ⟨a, b, c, by omega⟩
  · intro m a b
    by_cases e : m = C + 1
    · rw [e, pk_us] at a; exact absurd rfl a
    · rw [pk_un e] at a; exact h5 m a b
  · intro j hj
    obtain ⟨a, b, c, d⟩ := h6 j hj
    obtain ⟨a4, b4, c4, d4⟩ := h4 j hj
    rw [pk_uLn (by omega), pk_uLn (by omega)]
    refine ⟨a, b, ?_, ?_⟩
    · rw [c]; congr 1
      apply pb_c
      constructor
      · rintro ⟨i, i1, i2, i3⟩; exact ⟨i, i1, by omega, (ar_same k1 _ _).mpr i3⟩
      · rintro ⟨i, i1, i2, i3⟩
        have i4 := (ar_same k1 _ _).mp i3
        exact ⟨i, i1, (hkc i i4.2.1).2.1, i4⟩
    · rw [d]; congr 1
      apply pb_c
      constructor
      · rintro ⟨i, i1, i2, i3⟩; exact ⟨i, i1, by omega, (ar_same k1 _ _).mpr i3⟩
      · rintro ⟨i, i1, i2, i3⟩
        have i4 := (ar_same k1 _ _).mp i3
        exact ⟨i, i1, (hkc i i4.2.2.1).2.1, i4⟩
/-- what the component asks of its tracked ones -/
def dg_in (tR : Nat → Int64) (tn : Nat → Nat) (s0 : Nat) (wm : Int64) (i : Nat) : Prop := ∃ j, j < i ∧ s0 < tn j ∧ (tR j &&& wm) ≠ 0
def dg_out (tW : Nat → Int64) (tn : Nat → Nat) (s0 : Nat) (rm : Int64) (i : Nat) : Prop := ∃ j, j < i ∧ s0 < tn j ∧ (rm &&& tW j) ≠ 0
def dg_bad (tR tW : Nat → Int64) (tI tO : Nat → Int32) (tn : Nat → Nat) (s0 : Nat) (rm wm : Int64) (i : Nat) : Prop := ∃ j, j < i ∧ s0 < tn j ∧ (((tR j &&& wm) ≠ 0 ∧ tI j ≠ 0) ∨ ((rm &&& tW j) ≠ 0 ∧ tO j ≠ 0))
section
variable {kn : Nat → Int32} {cs : Nat → Nat} {cr cw : Nat → Int64} {C s0 : Nat} {rm wm : Int64} {P : Nat → Prop} {ft : Int32} {tN : Nat → Int32} {tR tW : Nat → Int64} {tI tO : Nat → Int32} {t : Nat} {tn : Nat → Nat} {x : Int32}
theorem bl_ne {Q : Prop} : bl_i (pb_p Q) ≠ 0 ↔ Q := by
  by_cases c : Q
  · rw [pb_t c]; exact ⟨fun _ => c, fun _ => by decide⟩
  · rw [pb_f c]; exact ⟨fun z => absurd rfl z, fun z => absurd z c⟩
/-- the old arrows of a tracked one and those with the next commit -/
theorem tk_in (h : tk_i kn cs cr cw C P ft tN tR tW tI tO t tn) (hkc : ∀ m, kn m ≠ 0 → 1 ≤ m ∧ m ≤ C ∧ cs m < m) (hx : x ≠ 0) {j : Nat} (hj : j < t) : ar_in (upd kn (C + 1) x) (un_u cs (C + 1) s0) (vp_updL cr (C + 1) rm) (vp_updL cw (C + 1) wm) (C + 1) (tn j) ↔ (tI j ≠ 0 ∨ (s0 < tn j ∧ (rm &&& tW j) ≠ 0)) := by
  obtain ⟨h1, h2, h3, h4, h5, h6⟩ := h
  obtain ⟨a, b, c, d⟩ := h6 j hj
  obtain ⟨a4, b4, c4, d4⟩ := h4 j hj
  rw [c, bl_ne, b]
  constructor
  · rintro ⟨i, i1, i2, i3⟩
    rcases (ar_new hx hkc _ _).mp i3 with z | z | z
    · exact Or.inl ⟨i, i1, (hkc i z.2.1).2.1, z⟩
    · exact Or.inr ⟨z.2.2.1, z.2.2.2⟩
    · omega
  · rintro (⟨i, i1, i2, i3⟩ | ⟨z1, z2⟩)
    · exact ⟨i, i1, by omega, (ar_new hx hkc _ _).mpr (Or.inl i3)⟩
    · exact ⟨C + 1, by omega, by omega, (ar_new hx hkc _ _).mpr (Or.inr (Or.inl ⟨rfl, a4, z1, z2⟩))⟩
theorem tk_out (h : tk_i kn cs cr cw C P ft tN tR tW tI tO t tn) (hkc : ∀ m, kn m ≠ 0 → 1 ≤ m ∧ m ≤ C ∧ cs m < m) (hx : x ≠ 0) {j : Nat} (hj : j < t) : ar_out (upd kn (C + 1) x) (un_u cs (C + 1) s0) (vp_updL cr (C + 1) rm) (vp_updL cw (C + 1) wm) (C + 1) (tn j) ↔ (tO j ≠ 0 ∨ (s0 < tn j ∧ (tR j &&& wm) ≠ 0)) := by
  obtain ⟨h1, h2, h3, h4, h5, h6⟩ := h
  obtain ⟨a, b, c, d⟩ := h6 j hj
  obtain ⟨a4, b4, c4, d4⟩ := h4 j hj
  rw [d, bl_ne, a]
  constructor
  · rintro ⟨i, i1, i2, i3⟩
    rcases (ar_new hx hkc _ _).mp i3 with z | z | z
    · exact Or.inl ⟨i, i1, (hkc i z.2.2.1).2.1, z⟩
    · omega
    · exact Or.inr ⟨z.2.2.1, z.2.2.2⟩
  · rintro (⟨i, i1, i2, i3⟩ | ⟨z1, z2⟩)
    · exact ⟨i, i1, by omega, (ar_new hx hkc _ _).mpr (Or.inl i3)⟩
    · exact ⟨C + 1, by omega, by omega, (ar_new hx hkc _ _).mpr (Or.inr (Or.inr ⟨rfl, a4, z1, z2⟩))⟩
theorem tk_inN (h : tk_i kn cs cr cw C P ft tN tR tW tI tO t tn) (hkc : ∀ m, kn m ≠ 0 → 1 ≤ m ∧ m ≤ C ∧ cs m < m) (hP : ∀ m, kn m ≠ 0 → s0 < m → P m) (hx : x ≠ 0) : ar_in (upd kn (C + 1) x) (un_u cs (C + 1) s0) (vp_updL cr (C + 1) rm) (vp_updL cw (C + 1) wm) (C + 1) (C + 1) ↔ dg_in tR tn s0 wm t := by
  obtain ⟨h1, h2, h3, h4, h5, h6⟩ := h
  have k1 : kn (C + 1) = 0 := by
    apply Decidable.byContradiction
    intro z
    have := (hkc _ z).2.1
    omega
  constructor
  · rintro ⟨i, i1, i2, i3⟩
    rcases (ar_new hx hkc _ _).mp i3 with z | z | z
    · exact absurd k1 z.2.2.1
    · exact absurd k1 z.2.1
    · obtain ⟨j, hj, e⟩ := h5 i z.2.1 (hP i z.2.1 z.2.2.1)
      refine ⟨j, hj, by rw [e]; exact z.2.2.1, ?_⟩
      rw [(h6 j hj).1, e]; exact z.2.2.2
  · rintro ⟨j, hj, z1, z2⟩
    obtain ⟨a4, b4, c4, d4⟩ := h4 j hj
    rw [(h6 j hj).1] at z2
    exact ⟨tn j, c4, by omega, (ar_new hx hkc _ _).mpr (Or.inr (Or.inr ⟨rfl, a4, z1, z2⟩))⟩
theorem tk_outN (h : tk_i kn cs cr cw C P ft tN tR tW tI tO t tn) (hkc : ∀ m, kn m ≠ 0 → 1 ≤ m ∧ m ≤ C ∧ cs m < m) (hP : ∀ m, kn m ≠ 0 → s0 < m → P m) (hx : x ≠ 0) : ar_out (upd kn (C + 1) x) (un_u cs (C + 1) s0) (vp_updL cr (C + 1) rm) (vp_updL cw (C + 1) wm) (C + 1) (C + 1) ↔ dg_out tW tn s0 rm t := by
  obtain ⟨h1, h2, h3, h4, h5, h6⟩ := h
  have k1 : kn (C + 1) = 0 := by
    apply Decidable.byContradiction
    intro z
    have := (hkc _ z).2.1
    omega
  constructor
  · rintro ⟨i, i1, i2, i3⟩
    rcases (ar_new hx hkc _ _).mp i3 with z | z | z
    · exact absurd k1 z.2.1
    · obtain ⟨j, hj, e⟩ := h5 i z.2.1 (hP i z.2.1 z.2.2.1)
      refine ⟨j, hj, by rw [e]; exact z.2.2.1, ?_⟩
      rw [(h6 j hj).2.1, e]; exact z.2.2.2
    · exact absurd k1 z.2.1
  · rintro ⟨j, hj, z1, z2⟩
    obtain ⟨a4, b4, c4, d4⟩ := h4 j hj
    rw [(h6 j hj).2.1] at z2
    exact ⟨tn j, c4, by omega, (ar_new hx hkc _ _).mpr (Or.inr (Or.inl ⟨rfl, a4, z1, z2⟩))⟩
/-- the two tests for danger agree -/
theorem tk_dang (h : tk_i kn cs cr cw C P ft tN tR tW tI tO t tn) (hkc : ∀ m, kn m ≠ 0 → 1 ≤ m ∧ m ≤ C ∧ cs m < m) (hP : ∀ m, kn m ≠ 0 → s0 < m → P m) (hx : x ≠ 0) : ar_d (upd kn (C + 1) x) (un_u cs (C + 1) s0) (vp_updL cr (C + 1) rm) (vp_updL cw (C + 1) wm) (C + 1) ↔ (dg_bad tR tW tI tO tn s0 rm wm t ∨ (dg_in tR tn s0 wm t ∧ dg_out tW tn s0 rm t)) := by
  have h0 := h
  obtain ⟨h1, h2, h3, h4, h5, h6⟩ := h
  have k1 : kn (C + 1) = 0 := by
    apply Decidable.byContradiction
    intro z
    have := (hkc _ z).2.1
    omega
  constructor
  · rintro ⟨m, m1, m2, m3, m4, m5⟩
    rcases m3 with z | z | z
    · subst z
      exact Or.inr ⟨(tk_inN h0 hkc hP hx).mp m4, (tk_outN h0 hkc hP hx).mp m5⟩
    · rcases (ar_new hx hkc _ _).mp z with y | y | y
      · exact absurd k1 y.2.2.1
      · exact absurd k1 y.2.1
      · obtain ⟨j, hj, e⟩ := h5 m y.2.1 (hP m y.2.1 y.2.2.1)
        have rd : (tR j &&& wm) ≠ 0 := by rw [(h6 j hj).1, e]; exact y.2.2.2
        have sj : s0 < tn j := by rw [e]; exact y.2.2.1
        rw [← e] at m4
        rcases (tk_in h0 hkc hx hj).mp m4 with q | q
        · exact Or.inl ⟨j, hj, sj, Or.inl ⟨rd, q⟩⟩
        · exact Or.inr ⟨⟨j, hj, sj, rd⟩, ⟨j, hj, q⟩⟩
    · rcases (ar_new hx hkc _ _).mp z with y | y | y
      · exact absurd k1 y.2.1
      · obtain ⟨j, hj, e⟩ := h5 m y.2.1 (hP m y.2.1 y.2.2.1)
        have rd : (rm &&& tW j) ≠ 0 := by rw [(h6 j hj).2.1, e]; exact y.2.2.2
        have sj : s0 < tn j := by rw [e]; exact y.2.2.1
        rw [← e] at m5
        rcases (tk_out h0 hkc hx hj).mp m5 with q | q
        · exact Or.inl ⟨j, hj, sj, Or.inr ⟨rd, q⟩⟩
        · exact Or.inr ⟨⟨j, hj, q⟩, ⟨j, hj, sj, rd⟩⟩
      · exact absurd k1 y.2.1
  · rintro (⟨j, hj, sj, z | z⟩ | ⟨z1, z2⟩)
    · obtain ⟨a4, b4, c4, d4⟩ := h4 j hj
      have z1 := z.1
      rw [(h6 j hj).1] at z1
      exact ⟨tn j, c4, by omega, Or.inr (Or.inl ((ar_new hx hkc _ _).mpr (Or.inr (Or.inr ⟨rfl, a4, sj, z1⟩)))), (tk_in h0 hkc hx hj).mpr (Or.inl z.2), (tk_out h0 hkc hx hj).mpr (Or.inr ⟨sj, z.1⟩)⟩
    · obtain ⟨a4, b4, c4, d4⟩ := h4 j hj
      have z1 := z.1
      rw [(h6 j hj).2.1] at z1
      exact ⟨tn j, c4, by omega, Or.inr (Or.inr ((ar_new hx hkc _ _).mpr (Or.inr (Or.inl ⟨rfl, a4, sj, z1⟩)))), (tk_in h0 hkc hx hj).mpr (Or.inr ⟨sj, z.1⟩), (tk_out h0 hkc hx hj).mpr (Or.inl z.2)⟩
    · exact ⟨C + 1, by omega, Nat.le_refl _, Or.inl rfl, (tk_inN h0 hkc hP hx).mpr z1, (tk_outN h0 hkc hP hx).mpr z2⟩
/-- the next commit is tracked -/
theorem tk_new {ft' : Int32} {tN' : Nat → Int32} {tR' tW' : Nat → Int64} {tI' tO' : Nat → Int32} (h : tk_i kn cs cr cw C P ft tN tR tW tI tO t tn) (hkc : ∀ m, kn m ≠ 0 → 1 ≤ m ∧ m ≤ C ∧ cs m < m) (hP : ∀ m, kn m ≠ 0 → s0 < m → P m) (hx : x ≠ 0) (e0 : ft' = nI (t + 1)) (e1 : tN' = upd tN t (nI (C + 1))) (e2 : tR' = vp_updL tR t rm) (e3 : tW' = vp_updL tW t wm) (e4 : ∀ j, j < t → tI' j = bl_i (bl_b (tI j) || pb_p (s0 < tn j ∧ (rm &&& tW j) ≠ 0))) (e5 : ∀ j, j < t → tO' j = bl_i (bl_b (tO j) || pb_p (s0 < tn j ∧ (tR j &&& wm) ≠ 0))) (e6 : tI' t = bl_i (pb_p (dg_in tR tn s0 wm t))) (e7 : tO' t = bl_i (pb_p (dg_out tW tn s0 rm t))) : tk_i (upd kn (C + 1) x) (un_u cs (C + 1) s0) (vp_updL cr (C + 1) rm) (vp_updL cw (C + 1) wm) (C + 1) (fun m => P m ∨ m = C + 1) ft' tN' tR' tW' tI' tO' (t + 1) (un_u tn t (C + 1)) := by
  have h0 := h
  obtain ⟨h1, h2, h3, h4, h5, h6⟩ := h
  subst e1 e2 e3
  refine ⟨e0, ?_, ?_, ?_, ?_, ?_⟩
  · intro j hj
    by_cases c : j = t
    · rw [c, pk_us, un_s]
    · rw [pk_un c, un_n c]; exact h2 j (by omega)
  · intro i j a b
    by_cases c : j = t
    · rw [c, un_s, un_n (by omega)]
      have := (h4 i (by omega)).2.2.2
      omega
    · rw [un_n c, un_n (by omega)]; exact h3 i j a (by omega)
  · intro j hj
    by_cases c : j = t
    · rw [c, un_s, pk_us]; exact ⟨hx, Or.inr rfl, by omega, Nat.le_refl _⟩
    · rw [un_n c]
      obtain ⟨a4, b4, c4, d4⟩ := h4 j (by omega)
      rw [pk_un (by omega)]
      exact ⟨a4, Or.inl b4, c4, by omega⟩
  · intro m a b
    by_cases c : m = C + 1
    · exact ⟨t, by omega, by rw [un_s, c]⟩
    · rw [pk_un c] at a
      obtain ⟨j, hj, e⟩ := h5 m a (b.elim id (fun z => absurd z c))
      exact ⟨j, by omega, by rw [un_n (by omega)]; exact e⟩
  · intro j hj
    by_cases c : j = t
    · rw [c, un_s, pk_uLs, pk_uLs, pk_uLs, pk_uLs]
      exact ⟨rfl, rfl, by rw [e6, pb_c (tk_inN h0 hkc hP hx)], by rw [e7, pb_c (tk_outN h0 hkc hP hx)]⟩
    · have hj' : j < t := by omega
      rw [un_n c]
      obtain ⟨a4, b4, c4, d4⟩ := h4 j hj'
      obtain ⟨a, b, _, _⟩ := h6 j hj'
      rw [pk_uLn c, pk_uLn c, pk_uLn (by omega), pk_uLn (by omega)]
      refine ⟨a, b, ?_, ?_⟩
      · rw [e4 j hj', pb_c (tk_in h0 hkc hx hj'), ← pb_or]
        congr 2
        by_cases z : tI j = 0
        · rw [bl_bf z, pb_f (fun y => y z)]
        · rw [bl_bt z, pb_t z]
      · rw [e5 j hj', pb_c (tk_out h0 hkc hx hj'), ← pb_or]
        congr 2
        by_cases z : tO j = 0
        · rw [bl_bf z, pb_f (fun y => y z)]
        · rw [bl_bt z, pb_t z]
end
end
section
/-! tracked commits: the component's walks -/
def sh_a {α : Type} (a : Nat → α) (g i : Nat) : Nat → α := fun j => if j < i then a (j + g) else a j
theorem sh_0 {α : Type} {a : Nat → α} {g : Nat} : sh_a a g 0 = a := by
  funext j; exact if_neg (by omega)
theorem sh_r {α : Type} {a : Nat → α} {g i : Nat} : sh_a a g i (i + g) = a (i + g) := if_neg (by omega)
theorem sh_in {α : Type} {a : Nat → α} {g i j : Nat} (h : j < i) : sh_a a g i j = a (j + g) := if_pos h
theorem sh_s {a : Nat → Int32} {g i : Nat} : upd (sh_a a g i) i (a (i + g)) = sh_a a g (i + 1) := by
  funext j
  by_cases c : j = i
  · rw [c, pk_us]; exact (if_pos (by omega)).symm
  · rw [pk_un c]
    by_cases d : j < i
    · exact (if_pos d).trans (if_pos (by omega)).symm
    · exact (if_neg d).trans (if_neg (by omega)).symm
theorem sh_l {a : Nat → Int64} {g i : Nat} : vp_updL (sh_a a g i) i (a (i + g)) = sh_a a g (i + 1) := by
  funext j
  by_cases c : j = i
  · rw [c, pk_uLs]; exact (if_pos (by omega)).symm
  · rw [pk_uLn c]
    by_cases d : j < i
    · exact (if_pos d).trans (if_pos (by omega)).symm
    · exact (if_neg d).trans (if_neg (by omega)).symm
section
variable {f_group : Int32} {f_present : Int64} {f_freeVersion : Int32} {f_freeCount : Int32} {f_tracked : Int32} {f_logLength : Int32} {f_baseMask : Int64} {f_commits : Int32} {f_durable : Int32} {a_newest : Nat → Int32} {a_verValue : Nat → Int32} {a_verThere : Nat → Int32} {a_verStamp : Nat → Int32} {a_verOlder : Nat → Int32} {a_fenwick : Nat → Int64} {a_open : Nat → Int32} {a_serial : Nat → Int32} {a_start : Nat → Int32} {a_readMask : Nat → Int64} {a_writeMask : Nat → Int64} {a_dirty : Nat → Int64} {a_writes : Nat → Int32} {a_writeKey : Nat → Int32} {a_writeValue : Nat → Int32} {a_writeThere : Nat → Int32} {a_writeBefore : Nat → Int32} {a_lastWrite : Nat → Int32} {a_saves : Nat → Int32} {a_saveAt : Nat → Int32} {a_trackNumber : Nat → Int32} {a_trackRead : Nat → Int64} {a_trackWrite : Nat → Int64} {a_trackIn : Nat → Int32} {a_trackOut : Nat → Int32} {a_logKey : Nat → Int32} {a_logValue : Nat → Int32} {a_logThere : Nat → Int32} {a_logStamp : Nat → Int32} {a_baseValue : Nat → Int32} {kn : Nat → Int32} {cs : Nat → Nat} {cr cw : Nat → Int64} {C : Nat} {P : Nat → Prop} {t : Nat} {tn : Nat → Nat}
theorem xw_fg49 {post : SX → Prop} {g q : Nat} (hq : f_tracked = nI q) (hqg : q + g ≤ 9) (hI : ∀ j, j < q + g → a_trackIn j = 0 ∨ a_trackIn j = 1) (hO : ∀ j, j < q + g → a_trackOut j = 0 ∨ a_trackOut j = 1) (hp : post (f_group, f_present, f_freeVersion, f_freeCount, f_tracked, f_logLength, f_baseMask, f_commits, f_durable, a_newest, a_verValue, a_verThere, a_verStamp, a_verOlder, a_fenwick, a_open, a_serial, a_start, a_readMask, a_writeMask, a_dirty, a_writes, a_writeKey, a_writeValue, a_writeThere, a_writeBefore, a_lastWrite, a_saves, a_saveAt, sh_a a_trackNumber g q, sh_a a_trackRead g q, sh_a a_trackWrite g q, sh_a a_trackIn g q, sh_a a_trackOut g q, a_logKey, a_logValue, a_logThere, a_logStamp, a_baseValue)) : ∀ d i f, i + d = q → d < f → wX_forget_49 post (nI g) f_group f_present f_freeVersion f_freeCount f_tracked f_logLength f_baseMask f_commits f_durable f (nI i) a_newest a_verValue a_verThere a_verStamp a_verOlder a_fenwick a_open a_serial a_start a_readMask a_writeMask a_dirty a_writes a_writeKey a_writeValue a_writeThere a_writeBefore a_lastWrite a_saves a_saveAt (sh_a a_trackNumber g i) (sh_a a_trackRead g i) (sh_a a_trackWrite g i) (sh_a a_trackIn g i) (sh_a a_trackOut g i) a_logKey a_logValue a_logThere a_logStamp a_baseValue := by
  intro d
  induction d with
  | zero =>
    intro i f hi hf
    obtain ⟨f, rfl⟩ : ∃ z, f = z + 1 := ⟨f - 1, by omega⟩
    obtain rfl : i = q := by omega
    refine br_t ?_ hp
    rw [hq]; exact nI_le (Nat.le_refl _) (by omega)
  | succ d ih =>
    intro i f hi hf
    obtain ⟨f, rfl⟩ : ∃ z, f = z + 1 := ⟨f - 1, by omega⟩
    have IH := ih (i + 1) f (by omega) (by omega)
    have e : nI i + nI g = nI (i + g) := nI_add i g
    have in1 : vp_in (nI i + nI g) 9 := by rw [e]; exact vp_in_nI (by omega) (by decide)
    have in2 : vp_in (nI i) 9 := vp_in_nI (by omega) (by decide)
    refine br_f ?_ ⟨in1, in2, nm_r (e' := sh_a a_trackNumber g (i + 1)) ?_ ⟨in1, in2, nm_r (e' := sh_a a_trackRead g (i + 1)) ?_ ⟨in1, in2, nm_r (e' := sh_a a_trackWrite g (i + 1)) ?_ ⟨in1, in2, nm_r (e' := sh_a a_trackIn g (i + 1)) ?_ ⟨in1, in2, nm_r (e' := sh_a a_trackOut g (i + 1)) ?_ (nm_r (nI_1 i) IH)⟩⟩⟩⟩⟩
    · rw [hq]; exact nI_ge (by omega) (by omega)
    · rw [e, nI_clamp (by omega), nI_clamp (by omega), sh_r, sh_s]
    · rw [e, nI_clamp (by omega), nI_clamp (by omega), sh_r, sh_l]
    · rw [e, nI_clamp (by omega), nI_clamp (by omega), sh_r, sh_l]
    · rw [e, nI_clamp (by omega), nI_clamp (by omega), sh_r, bl_nar (hI _ (by omega)), sh_s]
    · rw [e, nI_clamp (by omega), nI_clamp (by omega), sh_r, bl_nar (hO _ (by omega)), sh_s]
theorem xw_fg32 {post : SX → Prop} {g hz : Nat} (T : tk_i kn cs cr cw C P f_tracked a_trackNumber a_trackRead a_trackWrite a_trackIn a_trackOut t tn) (ht : t ≤ 9) (hg : g ≤ t) (hlo : ∀ j, j < g → tn j ≤ hz) (hhi : g < t → hz < tn g) (hp : ∀ ft' tN' tR' tW' tI' tO' t' tn', tk_i kn cs cr cw C (fun m => P m ∧ hz < m) ft' tN' tR' tW' tI' tO' t' tn' → post (f_group, f_present, f_freeVersion, f_freeCount, ft', f_logLength, f_baseMask, f_commits, f_durable, a_newest, a_verValue, a_verThere, a_verStamp, a_verOlder, a_fenwick, a_open, a_serial, a_start, a_readMask, a_writeMask, a_dirty, a_writes, a_writeKey, a_writeValue, a_writeThere, a_writeBefore, a_lastWrite, a_saves, a_saveAt, tN', tR', tW', tI', tO', a_logKey, a_logValue, a_logThere, a_logStamp, a_baseValue)) : wX_forget_32 post (nI g) f_group f_present f_freeVersion f_freeCount f_tracked f_logLength f_baseMask f_commits f_durable a_newest a_verValue a_verThere a_verStamp a_verOlder a_fenwick a_open a_serial a_start a_readMask a_writeMask a_dirty a_writes a_writeKey a_writeValue a_writeThere a_writeBefore a_lastWrite a_saves a_saveAt a_trackNumber a_trackRead a_trackWrite a_trackIn a_trackOut a_logKey a_logValue a_logThere a_logStamp a_baseValue := by
  unfold wX_forget_32
  have hI : ∀ j, j < t → a_trackIn j = 0 ∨ a_trackIn j = 1 := fun j hj => by rw [(T.2.2.2.2.2 j hj).2.2.1]; exact bl_01 _
  have hO : ∀ j, j < t → a_trackOut j = 0 ∨ a_trackOut j = 1 := fun j hj => by rw [(T.2.2.2.2.2 j hj).2.2.2]; exact bl_01 _
  refine pk_eq g 0 (fun e => ?_) (fun e => ?_)
  · subst e
    exact hp _ _ _ _ _ _ _ _ (tk_g T hg hlo hhi T.1 (fun _ _ => rfl) (fun _ _ => rfl) (fun _ _ => rfl) (fun _ _ => rfl) (fun _ _ => rfl))
  · refine nm_r (e' := nI (t - g)) (by rw [T.1]; exact pk_sub hg) ⟨t - g + 1, ?_⟩
    have gg := xw_fg49 (post := post) (g := g) (q := t - g) (f_tracked := nI (t - g)) rfl (by omega) (fun j hj => hI j (by omega)) (fun j hj => hO j (by omega)) (hp _ _ _ _ _ _ _ _ (tk_g T hg hlo hhi rfl (fun j hj => sh_in hj) (fun j hj => sh_in hj) (fun j hj => sh_in hj) (fun j hj => sh_in hj) (fun j hj => sh_in hj))) (t - g) 0 (t - g + 1) (by omega) (by omega)
    rw [sh_0, sh_0, sh_0, sh_0, sh_0] at gg
    exact gg
theorem xw_fg8 {post : SX → Prop} {hz : Nat} (T : tk_i kn cs cr cw C P f_tracked a_trackNumber a_trackRead a_trackWrite a_trackIn a_trackOut t tn) (ht : t ≤ 9) (hC : C < 2 ^ 31) (hzb : hz < 2 ^ 31) (hp : ∀ ft' tN' tR' tW' tI' tO' t' tn', tk_i kn cs cr cw C (fun m => P m ∧ hz < m) ft' tN' tR' tW' tI' tO' t' tn' → post (f_group, f_present, f_freeVersion, f_freeCount, ft', f_logLength, f_baseMask, f_commits, f_durable, a_newest, a_verValue, a_verThere, a_verStamp, a_verOlder, a_fenwick, a_open, a_serial, a_start, a_readMask, a_writeMask, a_dirty, a_writes, a_writeKey, a_writeValue, a_writeThere, a_writeBefore, a_lastWrite, a_saves, a_saveAt, tN', tR', tW', tI', tO', a_logKey, a_logValue, a_logThere, a_logStamp, a_baseValue)) : ∀ d g f, g + d = t → d < f → (∀ j, j < g → tn j ≤ hz) → wX_forget_8 post (nI hz) f_group f_present f_freeVersion f_freeCount f_tracked f_logLength f_baseMask f_commits f_durable a_newest a_verValue a_verThere a_verStamp a_verOlder a_fenwick a_open a_serial a_start a_readMask a_writeMask a_dirty a_writes a_writeKey a_writeValue a_writeThere a_writeBefore a_lastWrite a_saves a_saveAt a_trackNumber a_trackRead a_trackWrite a_trackIn a_trackOut a_logKey a_logValue a_logThere a_logStamp a_baseValue f (nI g) := by
  intro d
  induction d with
  | zero =>
    intro g f hg hf hlo
    obtain ⟨f, rfl⟩ : ∃ z, f = z + 1 := ⟨f - 1, by omega⟩
    obtain rfl : g = t := by omega
    refine br_t ?_ (xw_fg32 T ht (by omega) hlo (fun z => absurd z (by omega)) hp)
    rw [T.1]; exact nI_le (Nat.le_refl _) (by omega)
  | succ d ih =>
    intro g f hg hf hlo
    obtain ⟨f, rfl⟩ : ∃ z, f = z + 1 := ⟨f - 1, by omega⟩
    have r : a_trackNumber (nI g).toNatClampNeg = nI (tn g) := by rw [nI_clamp (by omega)]; exact T.2.1 g (by omega)
    have b := (T.2.2.2.1 g (by omega)).2.2.2
    refine br_f ?_ ⟨vp_in_nI (by omega) (by decide), pk_lt hz (tn g) (fun q => xw_fg32 T ht (by omega) hlo (fun _ => q) hp) (fun q => nm_r (nI_1 g) (ih (g + 1) f (by omega) (by omega) ?_)) rfl r⟩
    · rw [T.1]; exact nI_ge (by omega) (by omega)
    · intro j hj
      by_cases c : j = g
      · rw [c]; exact q
      · exact hlo j (by omega)
theorem hb_m1 : ∀ s, s < 4 → (nI s = (-1 : Int32) ↔ s = 4) := by
  intro s hs
  refine ⟨fun h => ?_, fun h => absurd h (by omega)⟩
  have := nI_pos (n := s) (by omega)
  rw [h] at this
  exact absurd (by decide) this
theorem hb_s {b : Nat} (hb : b < 4) : ∀ s, s < 4 → (nI s = nI b ↔ s = b) := fun s hs => nI_eq (by omega) (by omega)
theorem xw_forget {post : SX → Prop} {st : Nat → Nat} (T : tk_i kn cs cr cw C P f_tracked a_trackNumber a_trackRead a_trackWrite a_trackIn a_trackOut t tn) (ht : t ≤ 9) (hC : C < 2 ^ 31) (hc : f_commits = nI C) (hst : ∀ s, a_start s = nI (st s)) (hsb : ∀ s, st s < 2 ^ 31) (ho : bl_ok a_open) (hsr : bl_ok a_serial) (hp : ∀ ft' tN' tR' tW' tI' tO' t' tn', tk_i kn cs cr cw C (fun m => P m ∧ li_v a_open a_serial st 4 m) ft' tN' tR' tW' tI' tO' t' tn' → post (f_group, f_present, f_freeVersion, f_freeCount, ft', f_logLength, f_baseMask, f_commits, f_durable, a_newest, a_verValue, a_verThere, a_verStamp, a_verOlder, a_fenwick, a_open, a_serial, a_start, a_readMask, a_writeMask, a_dirty, a_writes, a_writeKey, a_writeValue, a_writeThere, a_writeBefore, a_lastWrite, a_saves, a_saveAt, tN', tR', tW', tI', tO', a_logKey, a_logValue, a_logThere, a_logStamp, a_baseValue)) (hkc : ∀ m, kn m ≠ 0 → m ≤ C) : wpX_forget post (f_group, f_present, f_freeVersion, f_freeCount, f_tracked, f_logLength, f_baseMask, f_commits, f_durable, a_newest, a_verValue, a_verThere, a_verStamp, a_verOlder, a_fenwick, a_open, a_serial, a_start, a_readMask, a_writeMask, a_dirty, a_writes, a_writeKey, a_writeValue, a_writeThere, a_writeBefore, a_lastWrite, a_saves, a_saveAt, a_trackNumber, a_trackRead, a_trackWrite, a_trackIn, a_trackOut, a_logKey, a_logValue, a_logThere, a_logStamp, a_baseValue) := by
  unfold wpX_forget
  refine xw_horizon hC hc hb_m1 hst hsb ho hsr (fun h hh hl => ⟨t + 1, ?_⟩)
  refine xw_fg8 T ht hC (by omega) ?_ t 0 (t + 1) (by omega) (by omega) (fun j hj => absurd hj (by omega))
  intro ft' tN' tR' tW' tI' tO' t' tn' T'
  refine hp ft' tN' tR' tW' tI' tO' t' tn' (tk_p T' (fun m hm => ?_))
  rw [hl m (hkc m hm)]
theorem xw_end {post : SX → Prop} {st K N : Nat → Nat} {s : Nat} (hs : s < 4) (hK : ∀ j, a_writeKey j = nI (K j)) (hK6 : ∀ j, K j < 64) (W : wi_v K N a_writes a_writeBefore a_lastWrite a_writeMask) (T : tk_i kn cs cr cw C P f_tracked a_trackNumber a_trackRead a_trackWrite a_trackIn a_trackOut t tn) (ht : t ≤ 9) (hC : C < 2 ^ 31) (hc : f_commits = nI C) (hst : ∀ s, a_start s = nI (st s)) (hsb : ∀ s, st s < 2 ^ 31) (ho : bl_ok a_open) (hsr : bl_ok a_serial) (hkc : ∀ m, kn m ≠ 0 → m ≤ C) (hp : ∀ w' l' m' ft' tN' tR' tW' tI' tO' t' tn', wi_v K (un_u N s 0) w' a_writeBefore l' m' → tk_i kn cs cr cw C (fun m => P m ∧ li_v (upd a_open s 0) a_serial st 4 m) ft' tN' tR' tW' tI' tO' t' tn' → post (f_group, f_present, f_freeVersion, f_freeCount, ft', f_logLength, f_baseMask, f_commits, f_durable, a_newest, a_verValue, a_verThere, a_verStamp, a_verOlder, a_fenwick, upd a_open s 0, a_serial, a_start, a_readMask, m', a_dirty, w', a_writeKey, a_writeValue, a_writeThere, a_writeBefore, l', upd a_saves s 0, a_saveAt, tN', tR', tW', tI', tO', a_logKey, a_logValue, a_logThere, a_logStamp, a_baseValue)) : wpX_end post (f_group, f_present, f_freeVersion, f_freeCount, f_tracked, f_logLength, f_baseMask, f_commits, f_durable, a_newest, a_verValue, a_verThere, a_verStamp, a_verOlder, a_fenwick, a_open, a_serial, a_start, a_readMask, a_writeMask, a_dirty, a_writes, a_writeKey, a_writeValue, a_writeThere, a_writeBefore, a_lastWrite, a_saves, a_saveAt, a_trackNumber, a_trackRead, a_trackWrite, a_trackIn, a_trackOut, a_logKey, a_logValue, a_logThere, a_logStamp, a_baseValue) (nI s) := by
  unfold wpX_end
  have in4 : vp_in (nI s) 4 := vp_in_nI hs (by decide)
  refine xw_takeBack (left := 0) hs hK hK6 (Nat.zero_le _) W (fun w' l' m' W' => ⟨in4, nm_r (e' := upd a_saves s 0) (wr_i (by omega) (nr_b (n := 0) (by decide))) ⟨in4, nm_r (e' := upd a_open s 0) (wr_i (by omega) bl_n0) ?_⟩⟩)
  exact xw_forget T ht hC hc hst hsb (bl_upd ho (Or.inl rfl)) hsr (fun ft' tN' tR' tW' tI' tO' t' tn' T' => hp w' l' m' ft' tN' tR' tW' tI' tO' t' tn' W' T') hkc
theorem xw_dang_go {post : Int32 → Prop} {s s0 : Nat} (hs : s < 4) (ht : t ≤ 9) (hft : f_tracked = nI t) (hN : ∀ j, j < t → a_trackNumber j = nI (tn j)) (hNb : ∀ j, j < t → tn j < 2 ^ 31) (hst : a_start s = nI s0) (hsb : s0 < 2 ^ 31) (hI : ∀ j, j < t → a_trackIn j = 0 ∨ a_trackIn j = 1) (hO : ∀ j, j < t → a_trackOut j = 0 ∨ a_trackOut j = 1) (hp : post (bl_i (pb_p (dg_bad a_trackRead a_trackWrite a_trackIn a_trackOut tn s0 (a_readMask s) (a_writeMask s) t ∨ (dg_in a_trackRead tn s0 (a_writeMask s) t ∧ dg_out a_trackWrite tn s0 (a_readMask s) t))))) : ∀ d i f, i + d = t → d < f → wX_dangerous_10 post (nI s) f_group f_present f_freeVersion f_freeCount f_tracked f_logLength f_baseMask f_commits f_durable a_newest a_verValue a_verThere a_verStamp a_verOlder a_fenwick a_open a_serial a_start a_readMask a_writeMask a_dirty a_writes a_writeKey a_writeValue a_writeThere a_writeBefore a_lastWrite a_saves a_saveAt a_trackNumber a_trackRead a_trackWrite a_trackIn a_trackOut a_logKey a_logValue a_logThere a_logStamp a_baseValue f (bl_i (pb_p (dg_in a_trackRead tn s0 (a_writeMask s) i))) (bl_i (pb_p (dg_out a_trackWrite tn s0 (a_readMask s) i))) (bl_i (pb_p (dg_bad a_trackRead a_trackWrite a_trackIn a_trackOut tn s0 (a_readMask s) (a_writeMask s) i))) (nI i) := by
  intro d
  induction d with
  | zero =>
    intro i f hi hf
    obtain ⟨f, rfl⟩ : ∃ z, f = z + 1 := ⟨f - 1, by omega⟩
    obtain rfl : i = t := by omega
    refine br_t (by rw [hft]; exact nI_le (Nat.le_refl _) (by omega)) ?_
    rw [bl_and, bl_or, pb_and, pb_or]
    exact ⟨bl_n _, hp⟩
  | succ d ih =>
    intro i f hi hf
    obtain ⟨f, rfl⟩ : ∃ z, f = z + 1 := ⟨f - 1, by omega⟩
    have IH := ih (i + 1) f (by omega) (by omega)
    have in9 : vp_in (nI i) 9 := vp_in_nI (by omega) (by decide)
    have in4 : vp_in (nI s) 4 := vp_in_nI hs (by decide)
    have r1 : a_trackNumber (nI i).toNatClampNeg = nI (tn i) := by rw [nI_clamp (by omega)]; exact hN i (by omega)
    have r2 : a_start (nI s).toNatClampNeg = nI s0 := by rw [nI_clamp (by omega)]; exact hst
    have b1 := hNb i (by omega)
    have m62 : s0 < tn i → ∀ z : Bool, (z = true ↔ (a_trackRead i &&& a_writeMask s) ≠ 0) → wX_dangerous_62 post (wX_dangerous_10 post (nI s) f_group f_present f_freeVersion f_freeCount f_tracked f_logLength f_baseMask f_commits f_durable a_newest a_verValue a_verThere a_verStamp a_verOlder a_fenwick a_open a_serial a_start a_readMask a_writeMask a_dirty a_writes a_writeKey a_writeValue a_writeThere a_writeBefore a_lastWrite a_saves a_saveAt a_trackNumber a_trackRead a_trackWrite a_trackIn a_trackOut a_logKey a_logValue a_logThere a_logStamp a_baseValue f) (nI s) (bl_i (pb_p (dg_in a_trackRead tn s0 (a_writeMask s) i))) (bl_i (pb_p (dg_out a_trackWrite tn s0 (a_readMask s) i))) (bl_i (pb_p (dg_bad a_trackRead a_trackWrite a_trackIn a_trackOut tn s0 (a_readMask s) (a_writeMask s) i))) (nI i) (bl_i z) f_group f_present f_freeVersion f_freeCount f_tracked f_logLength f_baseMask f_commits f_durable a_newest a_verValue a_verThere a_verStamp a_verOlder a_fenwick a_open a_serial a_start a_readMask a_writeMask a_dirty a_writes a_writeKey a_writeValue a_writeThere a_writeBefore a_lastWrite a_saves a_saveAt a_trackNumber a_trackRead a_trackWrite a_trackIn a_trackOut a_logKey a_logValue a_logThere a_logStamp a_baseValue := by
      intro q z hz
      have m88 : ∀ y : Bool, (y = true ↔ (a_readMask s &&& a_trackWrite i) ≠ 0) → wX_dangerous_88 post (wX_dangerous_10 post (nI s) f_group f_present f_freeVersion f_freeCount f_tracked f_logLength f_baseMask f_commits f_durable a_newest a_verValue a_verThere a_verStamp a_verOlder a_fenwick a_open a_serial a_start a_readMask a_writeMask a_dirty a_writes a_writeKey a_writeValue a_writeThere a_writeBefore a_lastWrite a_saves a_saveAt a_trackNumber a_trackRead a_trackWrite a_trackIn a_trackOut a_logKey a_logValue a_logThere a_logStamp a_baseValue f) (nI s) (bl_i (pb_p (dg_in a_trackRead tn s0 (a_writeMask s) i))) (bl_i (pb_p (dg_out a_trackWrite tn s0 (a_readMask s) i))) (bl_i (pb_p (dg_bad a_trackRead a_trackWrite a_trackIn a_trackOut tn s0 (a_readMask s) (a_writeMask s) i))) (nI i) (bl_i z) (bl_i y) f_group f_present f_freeVersion f_freeCount f_tracked f_logLength f_baseMask f_commits f_durable a_newest a_verValue a_verThere a_verStamp a_verOlder a_fenwick a_open a_serial a_start a_readMask a_writeMask a_dirty a_writes a_writeKey a_writeValue a_writeThere a_writeBefore a_lastWrite a_saves a_saveAt a_trackNumber a_trackRead a_trackWrite a_trackIn a_trackOut a_logKey a_logValue a_logThere a_logStamp a_baseValue := by
        intro y hy
        unfold wX_dangerous_88
        have bI := hI i (by omega)
        have bO := hO i (by omega)
        have eI : bl_b (a_trackIn i) = true ↔ a_trackIn i ≠ 0 := ⟨fun h => of_decide_eq_true h, fun h => decide_eq_true h⟩
        have eO : bl_b (a_trackOut i) = true ↔ a_trackOut i ≠ 0 := ⟨fun h => of_decide_eq_true h, fun h => decide_eq_true h⟩
        refine nm_r (e' := bl_i (pb_p (dg_in a_trackRead tn s0 (a_writeMask s) (i + 1)))) ?_ (nm_r (e' := bl_i (pb_p (dg_out a_trackWrite tn s0 (a_readMask s) (i + 1)))) ?_ ⟨in9, in9, nm_r (e' := bl_i (pb_p (dg_bad a_trackRead a_trackWrite a_trackIn a_trackOut tn s0 (a_readMask s) (a_writeMask s) (i + 1)))) ?_ (nm_r (nI_1 i) IH)⟩)
        · exact ex_s (Q := fun j => s0 < tn j ∧ (a_trackRead j &&& a_writeMask s) ≠ 0) (by rw [hz]; exact ⟨fun a => ⟨q, a⟩, fun a => a.2⟩)
        · exact ex_s (Q := fun j => s0 < tn j ∧ (a_readMask s &&& a_trackWrite j) ≠ 0) (by rw [hy]; exact ⟨fun a => ⟨q, a⟩, fun a => a.2⟩)
        · rw [nI_clamp (by omega), bl_e bI, bl_e bO, bl_and, bl_and, bl_or]
          refine ex_s (Q := fun j => s0 < tn j ∧ (((a_trackRead j &&& a_writeMask s) ≠ 0 ∧ a_trackIn j ≠ 0) ∨ ((a_readMask s &&& a_trackWrite j) ≠ 0 ∧ a_trackOut j ≠ 0))) ?_
          rw [Bool.or_eq_true, Bool.and_eq_true, Bool.and_eq_true, hz, hy, eI, eO]
          exact ⟨fun a => ⟨q, a⟩, fun a => a.2⟩
      unfold wX_dangerous_62
      refine ⟨in4, in9, ?_⟩
      rw [nI_clamp (by omega), nI_clamp (by omega)]
      exact br_c (fun y => m88 false ⟨fun a => absurd a (by decide), fun a => absurd y a⟩) (fun y => m88 true ⟨fun _ => y, fun _ => rfl⟩)
    refine br_f (by rw [hft]; exact nI_ge (by omega) (by omega)) ⟨in9, in4, pk_lt s0 (tn i) (fun q => ⟨in9, in4, ?_⟩) (fun q => nm_r (nI_1 i) ?_) r2 r1⟩
    · rw [nI_clamp (by omega), nI_clamp (by omega)]
      exact br_c (fun y => m62 q false ⟨fun a => absurd a (by decide), fun a => absurd y a⟩) (fun y => m62 q true ⟨fun _ => y, fun _ => rfl⟩)
    · have k1 : pb_p (dg_in a_trackRead tn s0 (a_writeMask s) (i + 1)) = pb_p (dg_in a_trackRead tn s0 (a_writeMask s) i) := ex_k (Q := fun j => s0 < tn j ∧ (a_trackRead j &&& a_writeMask s) ≠ 0) (fun a => absurd a.1 (by omega))
      have k2 : pb_p (dg_out a_trackWrite tn s0 (a_readMask s) (i + 1)) = pb_p (dg_out a_trackWrite tn s0 (a_readMask s) i) := ex_k (Q := fun j => s0 < tn j ∧ (a_readMask s &&& a_trackWrite j) ≠ 0) (fun a => absurd a.1 (by omega))
      have k3 : pb_p (dg_bad a_trackRead a_trackWrite a_trackIn a_trackOut tn s0 (a_readMask s) (a_writeMask s) (i + 1)) = pb_p (dg_bad a_trackRead a_trackWrite a_trackIn a_trackOut tn s0 (a_readMask s) (a_writeMask s) i) := ex_k (Q := fun j => s0 < tn j ∧ (((a_trackRead j &&& a_writeMask s) ≠ 0 ∧ a_trackIn j ≠ 0) ∨ ((a_readMask s &&& a_trackWrite j) ≠ 0 ∧ a_trackOut j ≠ 0))) (fun a => absurd a.1 (by omega))
      rw [k1, k2, k3] at IH
      exact IH
theorem xw_dangerous {post : Int32 → Prop} {s s0 : Nat} (hs : s < 4) (ht : t ≤ 9) (hC : C < 2 ^ 31) (T : tk_i kn cs cr cw C P f_tracked a_trackNumber a_trackRead a_trackWrite a_trackIn a_trackOut t tn) (hst : a_start s = nI s0) (hsb : s0 < 2 ^ 31) (hp : post (bl_i (pb_p (dg_bad a_trackRead a_trackWrite a_trackIn a_trackOut tn s0 (a_readMask s) (a_writeMask s) t ∨ (dg_in a_trackRead tn s0 (a_writeMask s) t ∧ dg_out a_trackWrite tn s0 (a_readMask s) t))))) : wpX_dangerous post (f_group, f_present, f_freeVersion, f_freeCount, f_tracked, f_logLength, f_baseMask, f_commits, f_durable, a_newest, a_verValue, a_verThere, a_verStamp, a_verOlder, a_fenwick, a_open, a_serial, a_start, a_readMask, a_writeMask, a_dirty, a_writes, a_writeKey, a_writeValue, a_writeThere, a_writeBefore, a_lastWrite, a_saves, a_saveAt, a_trackNumber, a_trackRead, a_trackWrite, a_trackIn, a_trackOut, a_logKey, a_logValue, a_logThere, a_logStamp, a_baseValue) (nI s) := by
  have hI : ∀ j, j < t → a_trackIn j = 0 ∨ a_trackIn j = 1 := fun j hj => by rw [(T.2.2.2.2.2 j hj).2.2.1]; exact bl_01 _
  have hO : ∀ j, j < t → a_trackOut j = 0 ∨ a_trackOut j = 1 := fun j hj => by rw [(T.2.2.2.2.2 j hj).2.2.2]; exact bl_01 _
  have hNb : ∀ j, j < t → tn j < 2 ^ 31 := fun j hj => by have := (T.2.2.2.1 j hj).2.2.2; omega
  unfold wpX_dangerous
  have g : wX_dangerous_10 post (nI s) f_group f_present f_freeVersion f_freeCount f_tracked f_logLength f_baseMask f_commits f_durable a_newest a_verValue a_verThere a_verStamp a_verOlder a_fenwick a_open a_serial a_start a_readMask a_writeMask a_dirty a_writes a_writeKey a_writeValue a_writeThere a_writeBefore a_lastWrite a_saves a_saveAt a_trackNumber a_trackRead a_trackWrite a_trackIn a_trackOut a_logKey a_logValue a_logThere a_logStamp a_baseValue (t + 1) (bl_i (pb_p (dg_in a_trackRead tn s0 (a_writeMask s) 0))) (bl_i (pb_p (dg_out a_trackWrite tn s0 (a_readMask s) 0))) (bl_i (pb_p (dg_bad a_trackRead a_trackWrite a_trackIn a_trackOut tn s0 (a_readMask s) (a_writeMask s) 0))) (nI 0) := xw_dang_go hs ht T.1 T.2.1 hNb hst hsb hI hO hp t 0 (t + 1) (by omega) (by omega)
  have z1 : bl_i (pb_p (dg_in a_trackRead tn s0 (a_writeMask s) 0)) = 0 := ex_0
  have z2 : bl_i (pb_p (dg_out a_trackWrite tn s0 (a_readMask s) 0)) = 0 := ex_0
  have z3 : bl_i (pb_p (dg_bad a_trackRead a_trackWrite a_trackIn a_trackOut tn s0 (a_readMask s) (a_writeMask s) 0)) = 0 := ex_0
  rw [z1, z2, z3] at g
  exact ⟨t + 1, g⟩
end
end
section
/-! track and checkSerial -/
section
variable {f_group : Int32} {f_present : Int64} {f_freeVersion : Int32} {f_freeCount : Int32} {f_tracked : Int32} {f_logLength : Int32} {f_baseMask : Int64} {f_commits : Int32} {f_durable : Int32} {a_newest : Nat → Int32} {a_verValue : Nat → Int32} {a_verThere : Nat → Int32} {a_verStamp : Nat → Int32} {a_verOlder : Nat → Int32} {a_fenwick : Nat → Int64} {a_open : Nat → Int32} {a_serial : Nat → Int32} {a_start : Nat → Int32} {a_readMask : Nat → Int64} {a_writeMask : Nat → Int64} {a_dirty : Nat → Int64} {a_writes : Nat → Int32} {a_writeKey : Nat → Int32} {a_writeValue : Nat → Int32} {a_writeThere : Nat → Int32} {a_writeBefore : Nat → Int32} {a_lastWrite : Nat → Int32} {a_saves : Nat → Int32} {a_saveAt : Nat → Int32} {a_trackNumber : Nat → Int32} {a_trackRead : Nat → Int64} {a_trackWrite : Nat → Int64} {a_trackIn : Nat → Int32} {a_trackOut : Nat → Int32} {a_logKey : Nat → Int32} {a_logValue : Nat → Int32} {a_logThere : Nat → Int32} {a_logStamp : Nat → Int32} {a_baseValue : Nat → Int32} {kn : Nat → Int32} {cs : Nat → Nat} {cr cw : Nat → Int64} {C : Nat} {P : Nat → Prop} {t : Nat} {tn : Nat → Nat}
theorem xw_track_go {post : SX → Prop} {s s0 : Nat} (hs : s < 4) (ht : t ≤ 8) (hft : f_tracked = nI t) (hc : f_commits = nI C) (hN : ∀ j, j < t → a_trackNumber j = nI (tn j)) (hNb : ∀ j, j < t → tn j < 2 ^ 31) (hst : a_start s = nI s0) (hsb : s0 < 2 ^ 31) (hI : ∀ j, j < t → a_trackIn j = 0 ∨ a_trackIn j = 1) (hO : ∀ j, j < t → a_trackOut j = 0 ∨ a_trackOut j = 1) (hp : ∀ tI' tO', (∀ j, j < t → tI' j = bl_i (bl_b (a_trackIn j) || pb_p (s0 < tn j ∧ (a_readMask s &&& a_trackWrite j) ≠ 0))) → (∀ j, j < t → tO' j = bl_i (bl_b (a_trackOut j) || pb_p (s0 < tn j ∧ (a_trackRead j &&& a_writeMask s) ≠ 0))) → tI' t = bl_i (pb_p (dg_in a_trackRead tn s0 (a_writeMask s) t)) → tO' t = bl_i (pb_p (dg_out a_trackWrite tn s0 (a_readMask s) t)) → post (f_group, f_present, f_freeVersion, f_freeCount, nI (t + 1), f_logLength, f_baseMask, f_commits, f_durable, a_newest, a_verValue, a_verThere, a_verStamp, a_verOlder, a_fenwick, a_open, a_serial, a_start, a_readMask, a_writeMask, a_dirty, a_writes, a_writeKey, a_writeValue, a_writeThere, a_writeBefore, a_lastWrite, a_saves, a_saveAt, upd a_trackNumber t (nI (C + 1)), vp_updL a_trackRead t (a_readMask s), vp_updL a_trackWrite t (a_writeMask s), tI', tO', a_logKey, a_logValue, a_logThere, a_logStamp, a_baseValue)) : ∀ d i f tI tO, i + d = t → d < f → (∀ j, i ≤ j → tI j = a_trackIn j ∧ tO j = a_trackOut j) → (∀ j, j < i → tI j = bl_i (bl_b (a_trackIn j) || pb_p (s0 < tn j ∧ (a_readMask s &&& a_trackWrite j) ≠ 0))) → (∀ j, j < i → tO j = bl_i (bl_b (a_trackOut j) || pb_p (s0 < tn j ∧ (a_trackRead j &&& a_writeMask s) ≠ 0))) → wX_track_7 post (nI s) f_group f_present f_freeVersion f_freeCount f_tracked f_logLength f_baseMask f_commits f_durable f (bl_i (pb_p (dg_in a_trackRead tn s0 (a_writeMask s) i))) (bl_i (pb_p (dg_out a_trackWrite tn s0 (a_readMask s) i))) (nI i) a_newest a_verValue a_verThere a_verStamp a_verOlder a_fenwick a_open a_serial a_start a_readMask a_writeMask a_dirty a_writes a_writeKey a_writeValue a_writeThere a_writeBefore a_lastWrite a_saves a_saveAt a_trackNumber a_trackRead a_trackWrite tI tO a_logKey a_logValue a_logThere a_logStamp a_baseValue := by
  have in4 : vp_in (nI s) 4 := vp_in_nI hs (by decide)
  intro d
  induction d with
  | zero =>
    intro i f tI tO hi hf h1 h2 h3
    obtain ⟨f, rfl⟩ : ∃ z, f = z + 1 := ⟨f - 1, by omega⟩
    obtain rfl : i = t := by omega
    subst hft hc
    have in9 : vp_in (nI i) 9 := vp_in_nI (by omega) (by decide)
    refine br_t (nI_le (Nat.le_refl _) (by omega)) ⟨in9, nm_r (wr_i (by omega) (bl_v _)) ⟨in9, nm_r (wr_i (by omega) (bl_v _)) ⟨in9, nm_r (wr_i (by omega) (nI_1 C)) ⟨in4, in9, nm_r (wr_l (by omega) (rd_a (by omega))) (nm_r (nI_1 i) ⟨in4, in9, nm_r (wr_l (by omega) (rd_a (by omega))) (hp _ _ ?_ ?_ pk_us pk_us)⟩)⟩⟩⟩⟩
    · intro j hj; rw [pk_un (by omega)]; exact h2 j hj
    · intro j hj; rw [pk_un (by omega)]; exact h3 j hj
  | succ d ih =>
    intro i f tI tO hi hf h1 h2 h3
    obtain ⟨f, rfl⟩ : ∃ z, f = z + 1 := ⟨f - 1, by omega⟩
    have in9 : vp_in (nI i) 9 := vp_in_nI (by omega) (by decide)
    have r1 : a_trackNumber (nI i).toNatClampNeg = nI (tn i) := by rw [nI_clamp (by omega)]; exact hN i (by omega)
    have r2 : a_start (nI s).toNatClampNeg = nI s0 := by rw [nI_clamp (by omega)]; exact hst
    have b1 := hNb i (by omega)
    have bI := hI i (by omega)
    have bO := hO i (by omega)
    obtain ⟨c1, c2⟩ := h1 i (Nat.le_refl _)
    have m59 : s0 < tn i → ∀ z : Bool, (z = true ↔ (a_trackRead i &&& a_writeMask s) ≠ 0) → wX_track_59 post (wX_track_7 post (nI s) f_group f_present f_freeVersion f_freeCount f_tracked f_logLength f_baseMask f_commits f_durable f) (nI s) (bl_i (pb_p (dg_in a_trackRead tn s0 (a_writeMask s) i))) (bl_i (pb_p (dg_out a_trackWrite tn s0 (a_readMask s) i))) (nI i) (bl_i z) f_group f_present f_freeVersion f_freeCount f_tracked f_logLength f_baseMask f_commits f_durable a_newest a_verValue a_verThere a_verStamp a_verOlder a_fenwick a_open a_serial a_start a_readMask a_writeMask a_dirty a_writes a_writeKey a_writeValue a_writeThere a_writeBefore a_lastWrite a_saves a_saveAt a_trackNumber a_trackRead a_trackWrite tI tO a_logKey a_logValue a_logThere a_logStamp a_baseValue := by
      intro q z hz
      have m85 : ∀ y : Bool, (y = true ↔ (a_readMask s &&& a_trackWrite i) ≠ 0) → wX_track_85 post (wX_track_7 post (nI s) f_group f_present f_freeVersion f_freeCount f_tracked f_logLength f_baseMask f_commits f_durable f) (nI s) (bl_i (pb_p (dg_in a_trackRead tn s0 (a_writeMask s) i))) (bl_i (pb_p (dg_out a_trackWrite tn s0 (a_readMask s) i))) (nI i) (bl_i z) (bl_i y) f_group f_present f_freeVersion f_freeCount f_tracked f_logLength f_baseMask f_commits f_durable a_newest a_verValue a_verThere a_verStamp a_verOlder a_fenwick a_open a_serial a_start a_readMask a_writeMask a_dirty a_writes a_writeKey a_writeValue a_writeThere a_writeBefore a_lastWrite a_saves a_saveAt a_trackNumber a_trackRead a_trackWrite tI tO a_logKey a_logValue a_logThere a_logStamp a_baseValue := by
        intro y hy
        unfold wX_track_85
        have ez : pb_p (s0 < tn i ∧ (a_trackRead i &&& a_writeMask s) ≠ 0) = z := bo_ext (by rw [pb_i, hz]; exact ⟨fun a => a.2, fun a => ⟨q, a⟩⟩)
        have ey : pb_p (s0 < tn i ∧ (a_readMask s &&& a_trackWrite i) ≠ 0) = y := bo_ext (by rw [pb_i, hy]; exact ⟨fun a => a.2, fun a => ⟨q, a⟩⟩)
        refine ⟨in9, in9, nm_r (e' := upd tO i (bl_i (bl_b (a_trackOut i) || z))) (wr_i (by omega) ?_) ⟨in9, in9, nm_r (e' := upd tI i (bl_i (bl_b (a_trackIn i) || y))) (wr_i (by omega) ?_) (nm_r (e' := bl_i (pb_p (dg_in a_trackRead tn s0 (a_writeMask s) (i + 1)))) ?_ (nm_r (e' := bl_i (pb_p (dg_out a_trackWrite tn s0 (a_readMask s) (i + 1)))) ?_ (nm_r (nI_1 i) (ih (i + 1) f _ _ (by omega) (by omega) ?_ ?_ ?_))))⟩⟩
        · rw [nI_clamp (by omega), c2, ← bl_or, ← bl_e bO]
          exact bl_nar (by rw [bl_e bO, bl_or]; exact bl_01 _)
        · rw [nI_clamp (by omega), c1, ← bl_or, ← bl_e bI]
          exact bl_nar (by rw [bl_e bI, bl_or]; exact bl_01 _)
        · exact ex_s (Q := fun j => s0 < tn j ∧ (a_trackRead j &&& a_writeMask s) ≠ 0) (by rw [hz]; exact ⟨fun a => ⟨q, a⟩, fun a => a.2⟩)
        · exact ex_s (Q := fun j => s0 < tn j ∧ (a_readMask s &&& a_trackWrite j) ≠ 0) (by rw [hy]; exact ⟨fun a => ⟨q, a⟩, fun a => a.2⟩)
        · intro j hj
          rw [pk_un (by omega), pk_un (by omega)]; exact h1 j (by omega)
        · intro j hj
          by_cases c : j = i
          · rw [c, pk_us, ey]
          · rw [pk_un c]; exact h2 j (by omega)
        · intro j hj
          by_cases c : j = i
          · rw [c, pk_us, ez]
          · rw [pk_un c]; exact h3 j (by omega)
      unfold wX_track_59
      refine ⟨in4, in9, ?_⟩
      rw [nI_clamp (by omega), nI_clamp (by omega)]
      exact br_c (fun y => m85 false ⟨fun a => absurd a (by decide), fun a => absurd y a⟩) (fun y => m85 true ⟨fun _ => y, fun _ => rfl⟩)
    refine br_f (by rw [hft]; exact nI_ge (by omega) (by omega)) ⟨in9, in4, pk_lt s0 (tn i) (fun q => ⟨in9, in4, ?_⟩) (fun q => nm_r (nI_1 i) ?_) r2 r1⟩
    · rw [nI_clamp (by omega), nI_clamp (by omega)]
      exact br_c (fun y => m59 q false ⟨fun a => absurd a (by decide), fun a => absurd y a⟩) (fun y => m59 q true ⟨fun _ => y, fun _ => rfl⟩)
    · have k1 : pb_p (dg_in a_trackRead tn s0 (a_writeMask s) (i + 1)) = pb_p (dg_in a_trackRead tn s0 (a_writeMask s) i) := ex_k (Q := fun j => s0 < tn j ∧ (a_trackRead j &&& a_writeMask s) ≠ 0) (fun a => absurd a.1 (by omega))
      have k2 : pb_p (dg_out a_trackWrite tn s0 (a_readMask s) (i + 1)) = pb_p (dg_out a_trackWrite tn s0 (a_readMask s) i) := ex_k (Q := fun j => s0 < tn j ∧ (a_readMask s &&& a_trackWrite j) ≠ 0) (fun a => absurd a.1 (by omega))
      have IH := ih (i + 1) f tI tO (by omega) (by omega) (fun j hj => h1 j (by omega)) (by
        intro j hj
        by_cases c : j = i
        · rw [c, c1, pb_f (fun a => absurd a.1 (by omega)), Bool.or_false]; exact bl_e bI
        · exact h2 j (by omega)) (by
        intro j hj
        by_cases c : j = i
        · rw [c, c2, pb_f (fun a => absurd a.1 (by omega)), Bool.or_false]; exact bl_e bO
        · exact h3 j (by omega))
      rw [k1, k2] at IH
      exact IH
theorem xw_track {post : SX → Prop} {s s0 : Nat} (hs : s < 4) (ht : t ≤ 8) (hC : C < 2 ^ 31) (hc : f_commits = nI C) (T : tk_i kn cs cr cw C P f_tracked a_trackNumber a_trackRead a_trackWrite a_trackIn a_trackOut t tn) (hst : a_start s = nI s0) (hsb : s0 < 2 ^ 31) (hp : ∀ tI' tO', (∀ j, j < t → tI' j = bl_i (bl_b (a_trackIn j) || pb_p (s0 < tn j ∧ (a_readMask s &&& a_trackWrite j) ≠ 0))) → (∀ j, j < t → tO' j = bl_i (bl_b (a_trackOut j) || pb_p (s0 < tn j ∧ (a_trackRead j &&& a_writeMask s) ≠ 0))) → tI' t = bl_i (pb_p (dg_in a_trackRead tn s0 (a_writeMask s) t)) → tO' t = bl_i (pb_p (dg_out a_trackWrite tn s0 (a_readMask s) t)) → post (f_group, f_present, f_freeVersion, f_freeCount, nI (t + 1), f_logLength, f_baseMask, f_commits, f_durable, a_newest, a_verValue, a_verThere, a_verStamp, a_verOlder, a_fenwick, a_open, a_serial, a_start, a_readMask, a_writeMask, a_dirty, a_writes, a_writeKey, a_writeValue, a_writeThere, a_writeBefore, a_lastWrite, a_saves, a_saveAt, upd a_trackNumber t (nI (C + 1)), vp_updL a_trackRead t (a_readMask s), vp_updL a_trackWrite t (a_writeMask s), tI', tO', a_logKey, a_logValue, a_logThere, a_logStamp, a_baseValue)) : wpX_track post (f_group, f_present, f_freeVersion, f_freeCount, f_tracked, f_logLength, f_baseMask, f_commits, f_durable, a_newest, a_verValue, a_verThere, a_verStamp, a_verOlder, a_fenwick, a_open, a_serial, a_start, a_readMask, a_writeMask, a_dirty, a_writes, a_writeKey, a_writeValue, a_writeThere, a_writeBefore, a_lastWrite, a_saves, a_saveAt, a_trackNumber, a_trackRead, a_trackWrite, a_trackIn, a_trackOut, a_logKey, a_logValue, a_logThere, a_logStamp, a_baseValue) (nI s) := by
  have hI : ∀ j, j < t → a_trackIn j = 0 ∨ a_trackIn j = 1 := fun j hj => by rw [(T.2.2.2.2.2 j hj).2.2.1]; exact bl_01 _
  have hO : ∀ j, j < t → a_trackOut j = 0 ∨ a_trackOut j = 1 := fun j hj => by rw [(T.2.2.2.2.2 j hj).2.2.2]; exact bl_01 _
  have hNb : ∀ j, j < t → tn j < 2 ^ 31 := fun j hj => by have := (T.2.2.2.1 j hj).2.2.2; omega
  unfold wpX_track
  have g : wX_track_7 post (nI s) f_group f_present f_freeVersion f_freeCount f_tracked f_logLength f_baseMask f_commits f_durable (t + 1) (bl_i (pb_p (dg_in a_trackRead tn s0 (a_writeMask s) 0))) (bl_i (pb_p (dg_out a_trackWrite tn s0 (a_readMask s) 0))) (nI 0) a_newest a_verValue a_verThere a_verStamp a_verOlder a_fenwick a_open a_serial a_start a_readMask a_writeMask a_dirty a_writes a_writeKey a_writeValue a_writeThere a_writeBefore a_lastWrite a_saves a_saveAt a_trackNumber a_trackRead a_trackWrite a_trackIn a_trackOut a_logKey a_logValue a_logThere a_logStamp a_baseValue := xw_track_go hs ht T.1 hc T.2.1 hNb hst hsb hI hO hp t 0 (t + 1) _ _ (by omega) (by omega) (fun _ _ => ⟨rfl, rfl⟩) (fun j hj => absurd hj (by omega)) (fun j hj => absurd hj (by omega))
  have z1 : bl_i (pb_p (dg_in a_trackRead tn s0 (a_writeMask s) 0)) = 0 := ex_0
  have z2 : bl_i (pb_p (dg_out a_trackWrite tn s0 (a_readMask s) 0)) = 0 := ex_0
  rw [z1, z2] at g
  exact ⟨t + 1, g⟩
theorem xw_cs_go {post : Int32 → SX → Prop} {s s0 h : Nat} (hs : s < 4) (ht : t ≤ 8) (hC : C < 2 ^ 31) (hh : h < 2 ^ 31) (hc : f_commits = nI C) (T : tk_i kn cs cr cw C P f_tracked a_trackNumber a_trackRead a_trackWrite a_trackIn a_trackOut t tn) (hst : a_start s = nI s0) (hsb : s0 < 2 ^ 31)
    (hp3 : (dg_bad a_trackRead a_trackWrite a_trackIn a_trackOut tn s0 (a_readMask s) (a_writeMask s) t ∨ (dg_in a_trackRead tn s0 (a_writeMask s) t ∧ dg_out a_trackWrite tn s0 (a_readMask s) t)) → post 3 (f_group, f_present, f_freeVersion, f_freeCount, f_tracked, f_logLength, f_baseMask, f_commits, f_durable, a_newest, a_verValue, a_verThere, a_verStamp, a_verOlder, a_fenwick, a_open, a_serial, a_start, a_readMask, a_writeMask, a_dirty, a_writes, a_writeKey, a_writeValue, a_writeThere, a_writeBefore, a_lastWrite, a_saves, a_saveAt, a_trackNumber, a_trackRead, a_trackWrite, a_trackIn, a_trackOut, a_logKey, a_logValue, a_logThere, a_logStamp, a_baseValue))
    (hp4 : ¬ (dg_bad a_trackRead a_trackWrite a_trackIn a_trackOut tn s0 (a_readMask s) (a_writeMask s) t ∨ (dg_in a_trackRead tn s0 (a_writeMask s) t ∧ dg_out a_trackWrite tn s0 (a_readMask s) t)) → 8 ≤ cn_t (fun j => decide (h < tn j)) t → post 4 (f_group, f_present, f_freeVersion, f_freeCount, f_tracked, f_logLength, f_baseMask, f_commits, f_durable, a_newest, a_verValue, a_verThere, a_verStamp, a_verOlder, a_fenwick, a_open, a_serial, a_start, a_readMask, a_writeMask, a_dirty, a_writes, a_writeKey, a_writeValue, a_writeThere, a_writeBefore, a_lastWrite, a_saves, a_saveAt, a_trackNumber, a_trackRead, a_trackWrite, a_trackIn, a_trackOut, a_logKey, a_logValue, a_logThere, a_logStamp, a_baseValue))
    (hp0 : ¬ (dg_bad a_trackRead a_trackWrite a_trackIn a_trackOut tn s0 (a_readMask s) (a_writeMask s) t ∨ (dg_in a_trackRead tn s0 (a_writeMask s) t ∧ dg_out a_trackWrite tn s0 (a_readMask s) t)) → cn_t (fun j => decide (h < tn j)) t < 8 → ∀ tI' tO', (∀ j, j < t → tI' j = bl_i (bl_b (a_trackIn j) || pb_p (s0 < tn j ∧ (a_readMask s &&& a_trackWrite j) ≠ 0))) → (∀ j, j < t → tO' j = bl_i (bl_b (a_trackOut j) || pb_p (s0 < tn j ∧ (a_trackRead j &&& a_writeMask s) ≠ 0))) → tI' t = bl_i (pb_p (dg_in a_trackRead tn s0 (a_writeMask s) t)) → tO' t = bl_i (pb_p (dg_out a_trackWrite tn s0 (a_readMask s) t)) → post 0 (f_group, f_present, f_freeVersion, f_freeCount, nI (t + 1), f_logLength, f_baseMask, f_commits, f_durable, a_newest, a_verValue, a_verThere, a_verStamp, a_verOlder, a_fenwick, a_open, a_serial, a_start, a_readMask, a_writeMask, a_dirty, a_writes, a_writeKey, a_writeValue, a_writeThere, a_writeBefore, a_lastWrite, a_saves, a_saveAt, upd a_trackNumber t (nI (C + 1)), vp_updL a_trackRead t (a_readMask s), vp_updL a_trackWrite t (a_writeMask s), tI', tO', a_logKey, a_logValue, a_logThere, a_logStamp, a_baseValue)) :
    ∀ d i f, i + d = t → d < f → wX_checkSerial_11 post (nI s) (nI h) f_group f_present f_freeVersion f_freeCount f_tracked f_logLength f_baseMask f_commits f_durable a_newest a_verValue a_verThere a_verStamp a_verOlder a_fenwick a_open a_serial a_start a_readMask a_writeMask a_dirty a_writes a_writeKey a_writeValue a_writeThere a_writeBefore a_lastWrite a_saves a_saveAt a_trackNumber a_trackRead a_trackWrite a_trackIn a_trackOut a_logKey a_logValue a_logThere a_logStamp a_baseValue f (nI (cn_t (fun j => decide (h < tn j)) i)) (nI i) := by
  intro d
  induction d with
  | zero =>
    intro i f hi hf
    obtain ⟨f, rfl⟩ : ∃ z, f = z + 1 := ⟨f - 1, by omega⟩
    obtain rfl : i = t := by omega
    have cb := cn_le (fun j => decide (h < tn j)) i
    refine br_t (by rw [T.1]; exact nI_le (Nat.le_refl _) (by omega)) (xw_dangerous hs (by omega) hC T hst hsb ?_)
    by_cases c : (dg_bad a_trackRead a_trackWrite a_trackIn a_trackOut tn s0 (a_readMask s) (a_writeMask s) i ∨ (dg_in a_trackRead tn s0 (a_writeMask s) i ∧ dg_out a_trackWrite tn s0 (a_readMask s) i))
    · rw [pb_t c]; exact br_f (by decide) (hp3 c)
    · rw [pb_f c]
      refine br_t rfl (pk_lt (cn_t (fun j => decide (h < tn j)) i) 8 (fun q => ?_) (fun q => hp4 c q))
      exact xw_track hs ht hC hc T hst hsb (hp0 c q)
  | succ d ih =>
    intro i f hi hf
    obtain ⟨f, rfl⟩ : ∃ z, f = z + 1 := ⟨f - 1, by omega⟩
    have IH := ih (i + 1) f (by omega) (by omega)
    rw [cn_s] at IH
    have b := (T.2.2.2.1 i (by omega)).2.2.2
    have r : a_trackNumber (nI i).toNatClampNeg = nI (tn i) := by rw [nI_clamp (by omega)]; exact T.2.1 i (by omega)
    refine br_f (by rw [T.1]; exact nI_ge (by omega) (by omega)) ⟨vp_in_nI (by omega) (by decide), pk_le (tn i) h (fun q => nm_r (nI_add _ 0) (nm_r (nI_1 i) ?_)) (fun q => nm_r (nI_1 _) (nm_r (nI_1 i) ?_)) r rfl⟩
    · rw [if_neg (by rw [decide_eq_false (by omega)]; decide)] at IH; exact IH
    · rw [if_pos (decide_eq_true q)] at IH; exact IH
theorem xw_checkSerial {post : Int32 → SX → Prop} {st : Nat → Nat} {s : Nat} (hs : s < 4) (ht : t ≤ 8) (hC : C < 2 ^ 31) (hc : f_commits = nI C) (hst : ∀ s, a_start s = nI (st s)) (hsb : ∀ s, st s < 2 ^ 31) (ho : bl_ok a_open) (hsr : bl_ok a_serial) (T : tk_i kn cs cr cw C (li_v a_open a_serial st 4) f_tracked a_trackNumber a_trackRead a_trackWrite a_trackIn a_trackOut t tn)
    (hp3 : (dg_bad a_trackRead a_trackWrite a_trackIn a_trackOut tn (st s) (a_readMask s) (a_writeMask s) t ∨ (dg_in a_trackRead tn (st s) (a_writeMask s) t ∧ dg_out a_trackWrite tn (st s) (a_readMask s) t)) → post 3 (f_group, f_present, f_freeVersion, f_freeCount, f_tracked, f_logLength, f_baseMask, f_commits, f_durable, a_newest, a_verValue, a_verThere, a_verStamp, a_verOlder, a_fenwick, a_open, a_serial, a_start, a_readMask, a_writeMask, a_dirty, a_writes, a_writeKey, a_writeValue, a_writeThere, a_writeBefore, a_lastWrite, a_saves, a_saveAt, a_trackNumber, a_trackRead, a_trackWrite, a_trackIn, a_trackOut, a_logKey, a_logValue, a_logThere, a_logStamp, a_baseValue))
    (hp4 : ¬ (dg_bad a_trackRead a_trackWrite a_trackIn a_trackOut tn (st s) (a_readMask s) (a_writeMask s) t ∨ (dg_in a_trackRead tn (st s) (a_writeMask s) t ∧ dg_out a_trackWrite tn (st s) (a_readMask s) t)) → 8 ≤ cn_t (fun j => pb_p (kn j ≠ 0 ∧ li_v a_open a_serial st s j)) (C + 1) → post 4 (f_group, f_present, f_freeVersion, f_freeCount, f_tracked, f_logLength, f_baseMask, f_commits, f_durable, a_newest, a_verValue, a_verThere, a_verStamp, a_verOlder, a_fenwick, a_open, a_serial, a_start, a_readMask, a_writeMask, a_dirty, a_writes, a_writeKey, a_writeValue, a_writeThere, a_writeBefore, a_lastWrite, a_saves, a_saveAt, a_trackNumber, a_trackRead, a_trackWrite, a_trackIn, a_trackOut, a_logKey, a_logValue, a_logThere, a_logStamp, a_baseValue))
    (hp0 : ¬ (dg_bad a_trackRead a_trackWrite a_trackIn a_trackOut tn (st s) (a_readMask s) (a_writeMask s) t ∨ (dg_in a_trackRead tn (st s) (a_writeMask s) t ∧ dg_out a_trackWrite tn (st s) (a_readMask s) t)) → cn_t (fun j => pb_p (kn j ≠ 0 ∧ li_v a_open a_serial st s j)) (C + 1) < 8 → ∀ tI' tO', (∀ j, j < t → tI' j = bl_i (bl_b (a_trackIn j) || pb_p (st s < tn j ∧ (a_readMask s &&& a_trackWrite j) ≠ 0))) → (∀ j, j < t → tO' j = bl_i (bl_b (a_trackOut j) || pb_p (st s < tn j ∧ (a_trackRead j &&& a_writeMask s) ≠ 0))) → tI' t = bl_i (pb_p (dg_in a_trackRead tn (st s) (a_writeMask s) t)) → tO' t = bl_i (pb_p (dg_out a_trackWrite tn (st s) (a_readMask s) t)) → post 0 (f_group, f_present, f_freeVersion, f_freeCount, nI (t + 1), f_logLength, f_baseMask, f_commits, f_durable, a_newest, a_verValue, a_verThere, a_verStamp, a_verOlder, a_fenwick, a_open, a_serial, a_start, a_readMask, a_writeMask, a_dirty, a_writes, a_writeKey, a_writeValue, a_writeThere, a_writeBefore, a_lastWrite, a_saves, a_saveAt, upd a_trackNumber t (nI (C + 1)), vp_updL a_trackRead t (a_readMask s), vp_updL a_trackWrite t (a_writeMask s), tI', tO', a_logKey, a_logValue, a_logThere, a_logStamp, a_baseValue)) :
    wpX_checkSerial post (f_group, f_present, f_freeVersion, f_freeCount, f_tracked, f_logLength, f_baseMask, f_commits, f_durable, a_newest, a_verValue, a_verThere, a_verStamp, a_verOlder, a_fenwick, a_open, a_serial, a_start, a_readMask, a_writeMask, a_dirty, a_writes, a_writeKey, a_writeValue, a_writeThere, a_writeBefore, a_lastWrite, a_saves, a_saveAt, a_trackNumber, a_trackRead, a_trackWrite, a_trackIn, a_trackOut, a_logKey, a_logValue, a_logThere, a_logStamp, a_baseValue) (nI s) := by
  unfold wpX_checkSerial
  refine xw_horizon hC hc (hb_s hs) hst hsb ho hsr (fun h hh hl => ⟨t + 1, ?_⟩)
  have e : cn_t (fun j => decide (h < tn j)) t = cn_t (fun j => pb_p (kn j ≠ 0 ∧ li_v a_open a_serial st s j)) (C + 1) := by
    rw [en_t (fun m => decide (h < m)) (fun m => pb_p (kn m ≠ 0 ∧ li_v a_open a_serial st 4 m)) tn (C + 1) t T.2.2.1 (fun j hj => ⟨by have := (T.2.2.2.1 j hj).2.2.2; omega, pb_t ⟨(T.2.2.2.1 j hj).1, (T.2.2.2.1 j hj).2.1⟩⟩) (fun m _ hm => T.2.2.2.2.1 m (pb_i.mp hm).1 (pb_i.mp hm).2)]
    apply cn_c
    intro m hm
    apply bo_ext
    rw [Bool.and_eq_true, pb_i, pb_i, decide_eq_true_eq, hl m (by omega)]
    constructor
    · intro z; exact ⟨z.1.1, z.2⟩
    · rintro ⟨z1, s', a, b, c⟩
      exact ⟨⟨z1, s', a, by omega, c⟩, s', a, b, c⟩
  rw [← e] at hp4 hp0
  exact xw_cs_go hs ht hC (by omega) hc T (hst s) (hsb s) hp3 hp4 hp0 t 0 (t + 1) (by omega) (by omega)
/-- the tracked ones counted by the reference -/
theorem tk_cnt {st : Nat → Nat} (T : tk_i kn cs cr cw C (li_v a_open a_serial st 4) f_tracked a_trackNumber a_trackRead a_trackWrite a_trackIn a_trackOut t tn) : cn_t (fun j => pb_p (kn j ≠ 0 ∧ li_v a_open a_serial st 4 j)) (C + 1) = t := by
  have e := en_t (fun _ => true) (fun m => pb_p (kn m ≠ 0 ∧ li_v a_open a_serial st 4 m)) tn (C + 1) t T.2.2.1 (fun j hj => ⟨by have := (T.2.2.2.1 j hj).2.2.2; omega, pb_t ⟨(T.2.2.2.1 j hj).1, (T.2.2.2.1 j hj).2.1⟩⟩) (fun m _ hm => T.2.2.2.2.1 m (pb_i.mp hm).1 (pb_i.mp hm).2)
  have e2 : ∀ n, cn_t (fun _ => true) n = n := by
    intro n
    induction n with
    | zero => rfl
    | succ n ih => rw [cn_s, ih]; rfl
  rw [e2] at e
  rw [e]
  apply cn_c
  intro m _
  rw [Bool.and_true]
end
end
section
/-! the log -/
def ba_s (bv : Nat → Int32) (bm : Int64) (k : Nat) : Option Int32 := if mb_b bm k = true then some (bv k) else none
def lo_v (bv : Nat → Int32) (bm : Int64) (lk ls : Nat → Nat) (lv lt : Nat → Int32) (m k n : Nat) : Option Int32 :=
  la_v (ba_s bv bm k) (fun i => decide (ls i ≤ m) && decide (lk i = k)) (fun i => ov_l (lt i) (lv i)) n
def lo_i (fl : Int32) (lK lV lT lS bV : Nat → Int32) (bM : Int64) (D C : Nat) (A : Nat → Nat → Option Int32) (n cb : Nat) : Prop :=
  ∃ lk ls : Nat → Nat, fl = nI n ∧ (∀ j, lK j = nI (lk j)) ∧ (∀ j, lk j < 64) ∧ (∀ j, lS j = nI (ls j)) ∧ (∀ j, ls j < 2 ^ 31) ∧ bl_ok lT ∧ (∀ i j, i ≤ j → j < n → ls i ≤ ls j) ∧ (∀ j, j < n → ls j ≤ C) ∧ cn_t (fun j => decide (D < ls j)) n ≤ cb ∧ (∀ m, D ≤ m → ∀ k, k < 64 → lo_v bV bM lk ls lV lT m k n = A m k)
theorem cn_x (p : Nat → Bool) (a : Nat) : ∀ b, cn_t p (a + b) = cn_t p a + cn_t (fun i => p (a + i)) b
  | 0 => rfl
  | b + 1 => by
    show cn_t p (a + b + 1) = _
    rw [cn_s, cn_s, cn_x p a b]; omega
theorem cn_all {p : Nat → Bool} : ∀ n, (∀ j, j < n → p j = true) → cn_t p n = n
  | 0, _ => rfl
  | n + 1, h => by rw [cn_s, cn_all n (fun j hj => h j (by omega)), h n (by omega)]; rfl
theorem lo_put {fl : Int32} {lK lV lT lS bV : Nat → Int32} {bM : Int64} {D C st n cb k : Nat} {A : Nat → Nat → Option Int32} {val th : Int32} (h : lo_i fl lK lV lT lS bV bM D C A n cb) (hk : k < 64) (hth : th = 0 ∨ th = 1) (hst : C ≤ st) (hsb : st < 2 ^ 31) : lo_i (nI (n + 1)) (upd lK n (nI k)) (upd lV n val) (upd lT n th) (upd lS n (nI st)) bV bM D st (fun m j => if st ≤ m ∧ j = k then ov_l th val else A m j) (n + 1) (cb + 1) := by
  obtain ⟨lk, ls, h1, h2, h3, h4, h5, h6, h7, h8, h9, h10⟩ := h
  refine ⟨un_u lk n k, un_u ls n st, rfl, un_upd h2 n k, ?_, un_upd h4 n st, ?_, bl_upd h6 hth, ?_, ?_, ?_, ?_⟩
  · intro j
    by_cases c : j = n
    · rw [c, un_s]; exact hk
    · rw [un_n c]; exact h3 j
  · intro j
    by_cases c : j = n
    · rw [c, un_s]; exact hsb
    · rw [un_n c]; exact h5 j
  · intro i j a b
    by_cases c : j = n
    · rw [c, un_s]
      by_cases d : i = n
      · rw [d, un_s]; exact Nat.le_refl _
      · rw [un_n d]; exact Nat.le_trans (h8 i (by omega)) hst
    · rw [un_n c, un_n (by omega)]; exact h7 i j a (by omega)
  · intro j hj
    by_cases c : j = n
    · rw [c, un_s]; exact Nat.le_refl _
    · rw [un_n c]; exact Nat.le_trans (h8 j (by omega)) hst
  · rw [cn_s, cn_c (q := fun j => decide (D < ls j)) n (fun j hj => by rw [un_n (by omega)])]
    have : (if decide (D < un_u ls n st n) = true then 1 else 0) ≤ 1 := by
      by_cases c : decide (D < un_u ls n st n) = true
      · rw [if_pos c]; exact Nat.le_refl _
      · rw [if_neg c]; omega
    omega
  · intro m hm j hj
    have same : la_v (ba_s bV bM j) (fun i => decide (un_u ls n st i ≤ m) && decide (un_u lk n k i = j)) (fun i => ov_l (upd lT n th i) (upd lV n val i)) n = A m j := by
      rw [← h10 m hm j hj]
      apply la_c rfl
      · intro i hi; rw [un_n (by omega), un_n (by omega)]
      · intro i hi _; rw [pk_un (by omega), pk_un (by omega)]
    by_cases c : st ≤ m ∧ j = k
    · have t : (fun i => decide (un_u ls n st i ≤ m) && decide (un_u lk n k i = j)) n = true := by
        show (decide (un_u ls n st n ≤ m) && decide (un_u lk n k n = j)) = true
        rw [un_s, un_s, decide_eq_true c.1, decide_eq_true c.2.symm]; rfl
      show la_v _ _ _ (n + 1) = (if st ≤ m ∧ j = k then ov_l th val else A m j)
      rw [la_t t, if_pos c, pk_us, pk_us]
    · have t : (fun i => decide (un_u ls n st i ≤ m) && decide (un_u lk n k i = j)) n = false := by
        show (decide (un_u ls n st n ≤ m) && decide (un_u lk n k n = j)) = false
        rw [un_s, un_s]
        by_cases d : st ≤ m
        · rw [decide_eq_false (p := k = j) (fun z => c ⟨d, z.symm⟩), Bool.and_false]
        · rw [decide_eq_false d]; rfl
      show la_v _ _ _ (n + 1) = (if st ≤ m ∧ j = k then ov_l th val else A m j)
      rw [la_f t, if_neg c]; exact same
theorem sh_n {a : Nat → Int32} {f : Nat → Nat} (h : ∀ j, a j = nI (f j)) (g q : Nat) : ∀ j, sh_a a g q j = nI (sh_a f g q j) := by
  intro j
  by_cases c : j < q
  · rw [sh_in c, sh_in c]; exact h _
  · show (if j < q then _ else _) = nI (if j < q then _ else _)
    rw [if_neg c, if_neg c]; exact h j
theorem sh_P {α : Type} {a : Nat → α} {Q : α → Prop} (h : ∀ j, Q (a j)) (g q : Nat) : ∀ j, Q (sh_a a g q j) := by
  intro j
  by_cases c : j < q
  · rw [sh_in c]; exact h _
  · show Q (if j < q then _ else _)
    rw [if_neg c]; exact h j
/-- the first g entries, the durable ones, go into the base -/
theorem lo_ck {lK lV lT lS bV bV' : Nat → Int32} {bM bM' : Int64} {D C n cb g : Nat} {A : Nat → Nat → Option Int32} {lk ls : Nat → Nat} (hg : g ≤ n) (h2 : ∀ j, lK j = nI (lk j)) (h3 : ∀ j, lk j < 64) (h4 : ∀ j, lS j = nI (ls j)) (h5 : ∀ j, ls j < 2 ^ 31) (h6 : bl_ok lT) (h7 : ∀ i j, i ≤ j → j < n → ls i ≤ ls j) (h8 : ∀ j, j < n → ls j ≤ C) (h9 : cn_t (fun j => decide (D < ls j)) n ≤ cb) (h10 : ∀ m, D ≤ m → ∀ k, k < 64 → lo_v bV bM lk ls lV lT m k n = A m k) (hlo : ∀ j, j < g → ls j ≤ D) (hhi : g < n → D < ls g) (hb : ∀ k, k < 64 → ba_s bV' bM' k = lo_v bV bM lk ls lV lT D k g) : lo_i (nI (n - g)) (sh_a lK g (n - g)) (sh_a lV g (n - g)) (sh_a lT g (n - g)) (sh_a lS g (n - g)) bV' bM' D C A (n - g) cb ∧ n - g ≤ cb ∧ ∀ k, k < 64 → ba_s bV' bM' k = A D k := by
  have up : ∀ j, j < n - g → D < sh_a ls g (n - g) j := by
    intro j hj
    rw [sh_in hj]
    exact Nat.lt_of_lt_of_le (hhi (by omega)) (h7 g (j + g) (by omega) (by omega))
  have cc : cn_t (fun j => decide (D < sh_a ls g (n - g) j)) (n - g) = n - g := cn_all _ (fun j hj => decide_eq_true (up j hj))
  have cl : n - g ≤ cb := by
    have e := cn_x (fun j => decide (D < ls j)) g (n - g)
    rw [show g + (n - g) = n by omega] at e
    have e2 : cn_t (fun i => decide (D < ls (g + i))) (n - g) = n - g := cn_all _ (fun j hj => by
      have := up j hj
      rw [sh_in hj, Nat.add_comm] at this
      exact decide_eq_true this)
    omega
  have val : ∀ m, D ≤ m → ∀ k, k < 64 → lo_v bV' bM' (sh_a lk g (n - g)) (sh_a ls g (n - g)) (sh_a lV g (n - g)) (sh_a lT g (n - g)) m k (n - g) = A m k := by
    intro m hm k hk
    rw [← h10 m hm k hk]
    have x := la_x (ba_s bV bM k) (fun i => decide (ls i ≤ m) && decide (lk i = k)) (fun i => ov_l (lT i) (lV i)) g (n - g)
    rw [show g + (n - g) = n by omega] at x
    refine Eq.trans ?_ x.symm
    apply la_c
    · rw [hb k hk]
      apply la_c rfl
      · intro i hi
        have := hlo i hi
        rw [decide_eq_true (p := ls i ≤ D) this, decide_eq_true (p := ls i ≤ m) (by omega)]
      · intro i hi _; rfl
    · intro i hi
      rw [sh_in hi, sh_in hi, Nat.add_comm i g]
    · intro i hi _
      rw [sh_in hi, sh_in hi, Nat.add_comm i g]
  refine ⟨⟨sh_a lk g (n - g), sh_a ls g (n - g), rfl, sh_n h2 _ _, sh_P (Q := fun x => x < 64) h3 _ _, sh_n h4 _ _, sh_P (Q := fun x => x < 2 ^ 31) h5 _ _, sh_P (Q := fun x => x = 0 ∨ x = 1) h6 _ _, ?_, ?_, by rw [cc]; exact cl, val⟩, cl, ?_⟩
  · intro i j a b
    rw [sh_in b, sh_in (show i < n - g by omega)]; exact h7 _ _ (by omega) (by omega)
  · intro j hj
    rw [sh_in hj]; exact h8 _ (by omega)
  · intro k hk
    rw [← val D (Nat.le_refl _) k hk]
    refine (la_0 _ ?_).symm
    intro i hi
    rw [decide_eq_false (p := sh_a ls g (n - g) i ≤ D) (by have := up i hi; omega)]; rfl
section
variable {f_group : Int32} {f_present : Int64} {f_freeVersion : Int32} {f_freeCount : Int32} {f_tracked : Int32} {f_logLength : Int32} {f_baseMask : Int64} {f_commits : Int32} {f_durable : Int32} {a_newest : Nat → Int32} {a_verValue : Nat → Int32} {a_verThere : Nat → Int32} {a_verStamp : Nat → Int32} {a_verOlder : Nat → Int32} {a_fenwick : Nat → Int64} {a_open : Nat → Int32} {a_serial : Nat → Int32} {a_start : Nat → Int32} {a_readMask : Nat → Int64} {a_writeMask : Nat → Int64} {a_dirty : Nat → Int64} {a_writes : Nat → Int32} {a_writeKey : Nat → Int32} {a_writeValue : Nat → Int32} {a_writeThere : Nat → Int32} {a_writeBefore : Nat → Int32} {a_lastWrite : Nat → Int32} {a_saves : Nat → Int32} {a_saveAt : Nat → Int32} {a_trackNumber : Nat → Int32} {a_trackRead : Nat → Int64} {a_trackWrite : Nat → Int64} {a_trackIn : Nat → Int32} {a_trackOut : Nat → Int32} {a_logKey : Nat → Int32} {a_logValue : Nat → Int32} {a_logThere : Nat → Int32} {a_logStamp : Nat → Int32} {a_baseValue : Nat → Int32} {D C n cb : Nat} {A : Nat → Nat → Option Int32}
theorem xw_cp88 {post : SX → Prop} {g : Nat} (hl : f_logLength = nI n) (hn : n ≤ 80) (hg : g ≤ n) {lk : Nat → Nat} (hk : ∀ j, a_logKey j = nI (lk j)) (hk6 : ∀ j, lk j < 64) (ht : bl_ok a_logThere) (hp : post (f_group, f_present, f_freeVersion, f_freeCount, f_tracked, nI (n - g), f_baseMask, f_commits, f_durable, a_newest, a_verValue, a_verThere, a_verStamp, a_verOlder, a_fenwick, a_open, a_serial, a_start, a_readMask, a_writeMask, a_dirty, a_writes, a_writeKey, a_writeValue, a_writeThere, a_writeBefore, a_lastWrite, a_saves, a_saveAt, a_trackNumber, a_trackRead, a_trackWrite, a_trackIn, a_trackOut, sh_a a_logKey g (n - g), sh_a a_logValue g (n - g), sh_a a_logThere g (n - g), sh_a a_logStamp g (n - g), a_baseValue)) : ∀ d i f, i + d = n - g → d < f → wX_checkpoint_88 post (nI g) f_group f_present f_freeVersion f_freeCount f_tracked f_logLength f_baseMask f_commits f_durable f (nI (i + g)) a_newest a_verValue a_verThere a_verStamp a_verOlder a_fenwick a_open a_serial a_start a_readMask a_writeMask a_dirty a_writes a_writeKey a_writeValue a_writeThere a_writeBefore a_lastWrite a_saves a_saveAt a_trackNumber a_trackRead a_trackWrite a_trackIn a_trackOut (sh_a a_logKey g i) (sh_a a_logValue g i) (sh_a a_logThere g i) (sh_a a_logStamp g i) a_baseValue := by
  intro d
  induction d with
  | zero =>
    intro i f hi hf
    obtain ⟨f, rfl⟩ : ∃ z, f = z + 1 := ⟨f - 1, by omega⟩
    obtain rfl : i = n - g := by omega
    refine br_t (by rw [hl]; exact nI_le (by omega) (by omega)) (nm_r (e' := nI (n - g)) (by rw [hl]; exact pk_sub hg) hp)
  | succ d ih =>
    intro i f hi hf
    obtain ⟨f, rfl⟩ : ∃ z, f = z + 1 := ⟨f - 1, by omega⟩
    have IH := ih (i + 1) f (by omega) (by omega)
    have e : nI (i + g) - nI g = nI i := by rw [pk_sub (by omega)]; congr 1; omega
    have e1 : nI (i + g) + 1 = nI (i + 1 + g) := by rw [nI_1]; congr 1; omega
    have in1 : vp_in (nI (i + g)) 80 := vp_in_nI (by omega) (by decide)
    have in2 : vp_in (nI (i + g) - nI g) 80 := by rw [e]; exact vp_in_nI (by omega) (by decide)
    have k6 := hk6 (i + g)
    refine br_f (by rw [hl]; exact nI_ge (by omega) (by omega)) ⟨in1, in2, nm_r (e' := sh_a a_logKey g (i + 1)) ?_ ⟨in1, in2, nm_r (e' := sh_a a_logValue g (i + 1)) ?_ ⟨in1, in2, nm_r (e' := sh_a a_logThere g (i + 1)) ?_ ⟨in1, in2, nm_r (e' := sh_a a_logStamp g (i + 1)) ?_ (nm_r e1 IH)⟩⟩⟩⟩
    · rw [e, nI_clamp (by omega), nI_clamp (by omega), sh_r, ← sh_s, hk (i + g), nr_b (by omega)]
    · rw [e, nI_clamp (by omega), nI_clamp (by omega), sh_r, sh_s]
    · rw [e, nI_clamp (by omega), nI_clamp (by omega), sh_r, bl_nar (ht _), sh_s]
    · rw [e, nI_clamp (by omega), nI_clamp (by omega), sh_r, sh_s]
theorem xw_cp2 {post : SX → Prop} {lk ls : Nat → Nat} (hd : f_durable = nI D) (hD : D < 2 ^ 31) (hl : f_logLength = nI n) (hn : n ≤ 80) (h2 : ∀ j, a_logKey j = nI (lk j)) (h3 : ∀ j, lk j < 64) (h4 : ∀ j, a_logStamp j = nI (ls j)) (h5 : ∀ j, ls j < 2 ^ 31) (h6 : bl_ok a_logThere) (hp : ∀ g bV' bM', g ≤ n → (∀ j, j < g → ls j ≤ D) → (g < n → D < ls g) → (∀ k, k < 64 → ba_s bV' bM' k = lo_v a_baseValue f_baseMask lk ls a_logValue a_logThere D k g) → post (f_group, f_present, f_freeVersion, f_freeCount, f_tracked, nI (n - g), bM', f_commits, f_durable, a_newest, a_verValue, a_verThere, a_verStamp, a_verOlder, a_fenwick, a_open, a_serial, a_start, a_readMask, a_writeMask, a_dirty, a_writes, a_writeKey, a_writeValue, a_writeThere, a_writeBefore, a_lastWrite, a_saves, a_saveAt, a_trackNumber, a_trackRead, a_trackWrite, a_trackIn, a_trackOut, sh_a a_logKey g (n - g), sh_a a_logValue g (n - g), sh_a a_logThere g (n - g), sh_a a_logStamp g (n - g), bV')) : ∀ d i f bV bM, i + d = n → d < f → (∀ j, j < i → ls j ≤ D) → (∀ k, k < 64 → ba_s bV bM k = lo_v a_baseValue f_baseMask lk ls a_logValue a_logThere D k i) → wX_checkpoint_2 post f_group f_present f_freeVersion f_freeCount f_tracked f_logLength f_commits f_durable f (nI i) bM a_newest a_verValue a_verThere a_verStamp a_verOlder a_fenwick a_open a_serial a_start a_readMask a_writeMask a_dirty a_writes a_writeKey a_writeValue a_writeThere a_writeBefore a_lastWrite a_saves a_saveAt a_trackNumber a_trackRead a_trackWrite a_trackIn a_trackOut a_logKey a_logValue a_logThere a_logStamp bV := by
  have exit : ∀ i bV bM, i ≤ n → (∀ j, j < i → ls j ≤ D) → (i < n → D < ls i) → (∀ k, k < 64 → ba_s bV bM k = lo_v a_baseValue f_baseMask lk ls a_logValue a_logThere D k i) → ∃ n88 : Nat, wX_checkpoint_88 post (nI i) f_group f_present f_freeVersion f_freeCount f_tracked f_logLength bM f_commits f_durable n88 (nI i) a_newest a_verValue a_verThere a_verStamp a_verOlder a_fenwick a_open a_serial a_start a_readMask a_writeMask a_dirty a_writes a_writeKey a_writeValue a_writeThere a_writeBefore a_lastWrite a_saves a_saveAt a_trackNumber a_trackRead a_trackWrite a_trackIn a_trackOut a_logKey a_logValue a_logThere a_logStamp bV := by
    intro i bV bM hi h1 hx hb
    refine ⟨n - i + 1, ?_⟩
    have gg : wX_checkpoint_88 post (nI i) f_group f_present f_freeVersion f_freeCount f_tracked f_logLength bM f_commits f_durable (n - i + 1) (nI (0 + i)) a_newest a_verValue a_verThere a_verStamp a_verOlder a_fenwick a_open a_serial a_start a_readMask a_writeMask a_dirty a_writes a_writeKey a_writeValue a_writeThere a_writeBefore a_lastWrite a_saves a_saveAt a_trackNumber a_trackRead a_trackWrite a_trackIn a_trackOut (sh_a a_logKey i 0) (sh_a a_logValue i 0) (sh_a a_logThere i 0) (sh_a a_logStamp i 0) bV := xw_cp88 hl hn hi h2 h3 h6 (hp i bV bM hi h1 hx hb) (n - i) 0 (n - i + 1) (by omega) (by omega)
    rw [sh_0, sh_0, sh_0, sh_0, Nat.zero_add] at gg
    exact gg
  intro d
  induction d with
  | zero =>
    intro i f bV bM hi hf h1 hb
    obtain ⟨f, rfl⟩ : ∃ z, f = z + 1 := ⟨f - 1, by omega⟩
    obtain rfl : i = n := by omega
    exact br_t (by rw [hl]; exact nI_le (Nat.le_refl _) (by omega)) (exit i bV bM (by omega) h1 (fun z => absurd z (by omega)) hb)
  | succ d ih =>
    intro i f bV bM hi hf h1 hb
    obtain ⟨f, rfl⟩ : ∃ z, f = z + 1 := ⟨f - 1, by omega⟩
    have in8 : vp_in (nI i) 80 := vp_in_nI (by omega) (by decide)
    have b5 := h5 i
    have k6 := h3 i
    have rt : a_logThere (nI i).toNatClampNeg = a_logThere i := rd_a (by omega)
    refine br_f (by rw [hl]; exact nI_ge (by omega) (by omega)) ⟨in8, pk_lt D (ls i) (fun q => exit i bV bM (by omega) h1 (fun _ => q) hb) (fun q => ⟨in8, nm_r (rd_i h2 (by omega)) ⟨in8, vp_in_nI k6 (by decide), nm_r (e' := upd bV (lk i) (a_logValue i)) (wr_i (by omega) (rd_a (by omega))) (nm_r (nI_1 i) ⟨in8, br_c (fun t => xw_bit (nm_e (ih (i + 1) f _ _ (by omega) (by omega) ?_ ?_))) (fun t => xw_bit (nm_e (ih (i + 1) f _ _ (by omega) (by omega) ?_ ?_)))⟩)⟩⟩) hd (rd_i h4 (by omega))⟩
    · intro j hj
      by_cases c : j = i
      · rw [c]; exact q
      · exact h1 j (by omega)
    · intro k hk
      rw [rt] at t
      unfold ba_s
      rw [mb_and, mb_not hk, mb_tb k6]
      by_cases c : lk i = k
      · have e : lo_v a_baseValue f_baseMask lk ls a_logValue a_logThere D k (i + 1) = ov_l (a_logThere i) (a_logValue i) := la_t (by show (decide (ls i ≤ D) && decide (lk i = k)) = true; rw [decide_eq_true q, decide_eq_true c]; rfl)
        rw [e, ov_0 t, decide_eq_true c.symm, Bool.not_true, Bool.and_false, if_neg (by decide)]
      · have e : lo_v a_baseValue f_baseMask lk ls a_logValue a_logThere D k (i + 1) = lo_v a_baseValue f_baseMask lk ls a_logValue a_logThere D k i := la_f (by show (decide (ls i ≤ D) && decide (lk i = k)) = false; rw [decide_eq_false c, Bool.and_false])
        rw [e, ← hb k hk, decide_eq_false (p := k = lk i) (fun z => c z.symm), Bool.not_false, Bool.and_true, pk_un (fun z => c z.symm)]
        rfl
    · intro j hj
      by_cases c : j = i
      · rw [c]; exact q
      · exact h1 j (by omega)
    · intro k hk
      rw [rt] at t
      unfold ba_s
      rw [mb_or, mb_tb k6]
      by_cases c : lk i = k
      · have e : lo_v a_baseValue f_baseMask lk ls a_logValue a_logThere D k (i + 1) = ov_l (a_logThere i) (a_logValue i) := la_t (by show (decide (ls i ≤ D) && decide (lk i = k)) = true; rw [decide_eq_true q, decide_eq_true c]; rfl)
        rw [e, ov_1 t, decide_eq_true c.symm, Bool.or_true, if_pos rfl, c, pk_us]
      · have e : lo_v a_baseValue f_baseMask lk ls a_logValue a_logThere D k (i + 1) = lo_v a_baseValue f_baseMask lk ls a_logValue a_logThere D k i := la_f (by show (decide (ls i ≤ D) && decide (lk i = k)) = false; rw [decide_eq_false c, Bool.and_false])
        rw [e, ← hb k hk, decide_eq_false (p := k = lk i) (fun z => c z.symm), Bool.or_false, pk_un (fun z => c z.symm)]
        rfl
theorem xw_checkpoint {post : SX → Prop} (hd : f_durable = nI D) (hD : D < 2 ^ 31) (hn : n ≤ 80) (L : lo_i f_logLength a_logKey a_logValue a_logThere a_logStamp a_baseValue f_baseMask D C A n cb) (hp : ∀ lK' lV' lT' lS' bV' bM' n', lo_i (nI n') lK' lV' lT' lS' bV' bM' D C A n' cb → n' ≤ cb → (∀ k, k < 64 → ba_s bV' bM' k = A D k) → post (f_group, f_present, f_freeVersion, f_freeCount, f_tracked, nI n', bM', f_commits, f_durable, a_newest, a_verValue, a_verThere, a_verStamp, a_verOlder, a_fenwick, a_open, a_serial, a_start, a_readMask, a_writeMask, a_dirty, a_writes, a_writeKey, a_writeValue, a_writeThere, a_writeBefore, a_lastWrite, a_saves, a_saveAt, a_trackNumber, a_trackRead, a_trackWrite, a_trackIn, a_trackOut, lK', lV', lT', lS', bV')) : wpX_checkpoint post (f_group, f_present, f_freeVersion, f_freeCount, f_tracked, f_logLength, f_baseMask, f_commits, f_durable, a_newest, a_verValue, a_verThere, a_verStamp, a_verOlder, a_fenwick, a_open, a_serial, a_start, a_readMask, a_writeMask, a_dirty, a_writes, a_writeKey, a_writeValue, a_writeThere, a_writeBefore, a_lastWrite, a_saves, a_saveAt, a_trackNumber, a_trackRead, a_trackWrite, a_trackIn, a_trackOut, a_logKey, a_logValue, a_logThere, a_logStamp, a_baseValue) := by
  obtain ⟨lk, ls, h1, h2, h3, h4, h5, h6, h7, h8, h9, h10⟩ := L
  unfold wpX_checkpoint
  refine ⟨n + 1, xw_cp2 hd hD h1 hn h2 h3 h4 h5 h6 ?_ n 0 (n + 1) a_baseValue f_baseMask (by omega) (by omega) (fun j hj => absurd hj (by omega)) (fun k _ => rfl)⟩
  intro g bV' bM' g1 g2 g3 g4
  obtain ⟨k1, k2, k3⟩ := lo_ck g1 h2 h3 h4 h5 h6 h7 h8 h9 h10 g2 g3 g4
  exact hp _ _ _ _ _ _ _ k1 k2 k3
theorem xw_put {post : SX → Prop} {cu : Nat → Option Int32} {V : Nat → Nat → Option Int32} {B : Nat → Nat} {fc k st : Nat} {val th : Int32} (hst : f_commits = nI st) (hsb : st < 2 ^ 31) (S : vs_t f_present f_freeVersion f_freeCount a_newest a_verValue a_verThere a_verStamp a_verOlder a_fenwick cu V B fc) (hk : k < 64) (hth : th = 0 ∨ th = 1) (hf : 0 < fc) (hB : B k ≤ st) (hn : n < 80) (hC : C ≤ st) (L : lo_i f_logLength a_logKey a_logValue a_logThere a_logStamp a_baseValue f_baseMask D C A n cb)
    (hp : ∀ p' fv' nw' vv' vt' vs' od' fe' lK' lV' lT' lS', vs_t p' fv' (nI (fc - 1)) nw' vv' vt' vs' od' fe' (un_u cu k (ov_l th val)) (fun m j => if j = k ∧ st ≤ m then ov_l th val else V m j) (un_u B k st) (fc - 1) → lo_i (nI (n + 1)) lK' lV' lT' lS' a_baseValue f_baseMask D st (fun m j => if st ≤ m ∧ j = k then ov_l th val else A m j) (n + 1) (cb + 1) → post (f_group, p', fv', nI (fc - 1), f_tracked, nI (n + 1), f_baseMask, f_commits, f_durable, nw', vv', vt', vs', od', fe', a_open, a_serial, a_start, a_readMask, a_writeMask, dr_n a_dirty k 4, a_writes, a_writeKey, a_writeValue, a_writeThere, a_writeBefore, a_lastWrite, a_saves, a_saveAt, a_trackNumber, a_trackRead, a_trackWrite, a_trackIn, a_trackOut, lK', lV', lT', lS', a_baseValue)) : wpX_put post (f_group, f_present, f_freeVersion, f_freeCount, f_tracked, f_logLength, f_baseMask, f_commits, f_durable, a_newest, a_verValue, a_verThere, a_verStamp, a_verOlder, a_fenwick, a_open, a_serial, a_start, a_readMask, a_writeMask, a_dirty, a_writes, a_writeKey, a_writeValue, a_writeThere, a_writeBefore, a_lastWrite, a_saves, a_saveAt, a_trackNumber, a_trackRead, a_trackWrite, a_trackIn, a_trackOut, a_logKey, a_logValue, a_logThere, a_logStamp, a_baseValue) (nI k) val th := by
  have hl : f_logLength = nI n := by
    obtain ⟨lk, ls, h1, _⟩ := L
    exact h1
  have L2 := lo_put (val := val) (th := th) L hk hth hC hsb
  subst hst hl
  unfold wpX_put
  have in8 : vp_in (nI n) 80 := vp_in_nI hn (by decide)
  refine xw_install S hk hth hf hsb hB (fun p' fv' nw' vv' vt' vs' od' fe' S' => ⟨in8, nm_r (wr_i (by omega) (nr_bb (by omega))) ⟨in8, nm_r (wr_i (by omega) rfl) ⟨in8, nm_r (wr_i (by omega) (bl_nar hth)) (nm_r (nI_1 n) ⟨in8, nm_r (wr_i (by omega) rfl) ?_⟩)⟩⟩⟩)
  exact hp p' fv' nw' vv' vt' vs' od' fe' _ _ _ _ S' L2
end
end
section
/-! the rows of a commit are put, one a key -/
theorem vs_ext {p : Int64} {fv fcI : Int32} {nw vv vt vs od : Nat → Int32} {fe : Nat → Int64} {cu cu' : Nat → Option Int32} {V V' : Nat → Nat → Option Int32} {B B' : Nat → Nat} {fc : Nat} (S : vs_t p fv fcI nw vv vt vs od fe cu V B fc) (h1 : ∀ k, k < 64 → cu' k = cu k) (h2 : ∀ k, k < 64 → ∀ m, V' m k = V m k) (h3 : ∀ k, k < 64 → B k ≤ B' k) : vs_t p fv fcI nw vv vt vs od fe cu' V' B' fc := by
  obtain ⟨nw', od', vs', fv', LL, g1, g2, g3, g4, g5, g6, g7, g8, g9, g10, g11, g12, g13⟩ := S
  refine ⟨nw', od', vs', fv', LL, g1, g2, g3, g4, g5, g6, g7, g8, ?_, ?_, ?_, ?_, ?_⟩
  · intro k hk; rw [h1 k hk]; exact g9 k hk
  · intro k hk m; rw [h2 k hk m]; exact g10 k hk m
  · intro k hk v hv; exact Nat.le_trans (g11 k hk v hv) (h3 k hk)
  · intro k hk; rw [h1 k hk]; exact g12 k hk
  · intro i h0 h6
    have e : ∀ n, n ≤ 64 → is_m (fun k => wg_t (cu' k)) n = is_m (fun k => wg_t (cu k)) n := fun n hn => is_c n (fun j hj => by rw [h1 j (by omega)])
    rw [e i (by omega), e (i - lb_t i) (by omega)]
    exact g13 i h0 h6
theorem lo_ext {fl : Int32} {lK lV lT lS bV : Nat → Int32} {bM : Int64} {D D' C C' n cb cb' : Nat} {A A' : Nat → Nat → Option Int32} (L : lo_i fl lK lV lT lS bV bM D C A n cb) (hD : D ≤ D') (hC : C ≤ C') (hA : ∀ m, D' ≤ m → ∀ k, k < 64 → A' m k = A m k) (hcb : cb ≤ cb') : lo_i fl lK lV lT lS bV bM D' C' A' n cb' := by
  obtain ⟨lk, ls, h1, h2, h3, h4, h5, h6, h7, h8, h9, h10⟩ := L
  refine ⟨lk, ls, h1, h2, h3, h4, h5, h6, h7, fun j hj => Nat.le_trans (h8 j hj) hC, ?_, ?_⟩
  · have := cn_m (p := fun j => decide (D' < ls j)) (q := fun j => decide (D < ls j)) n (fun j _ hj => by
      have := of_decide_eq_true hj
      exact decide_eq_true (by omega))
    omega
  · intro m hm k hk
    rw [hA m hm k hk]; exact h10 m (by omega) k hk
theorem lo_dur {fl : Int32} {lK lV lT lS bV : Nat → Int32} {bM : Int64} {D C n cb : Nat} {A : Nat → Nat → Option Int32} (L : lo_i fl lK lV lT lS bV bM D C A n cb) (hD : D ≤ C) : lo_i fl lK lV lT lS bV bM C C A n 0 := by
  obtain ⟨lk, ls, h1, h2, h3, h4, h5, h6, h7, h8, h9, h10⟩ := L
  refine ⟨lk, ls, h1, h2, h3, h4, h5, h6, h7, h8, ?_, fun m hm k hk => h10 m (by omega) k hk⟩
  rw [cn_z n (fun j hj => decide_eq_false (by have := h8 j hj; omega))]
  exact Nat.le_refl _
def pl_i (wm : Int64) (ov : Nat → Option Int32) (st D nm cbm : Nat) (cu0 : Nat → Option Int32) (V0 A0 : Nat → Nat → Option Int32) (d0 : Nat → Int64) (bV : Nat → Int32) (bM : Int64) (x3 : Int64) (p : Int64) (fv fcI : Int32) (nw vv vt vs od : Nat → Int32) (fe dty : Nat → Int64) (fl : Int32) (lK lV lT lS : Nat → Int32) : Prop :=
  ∃ (cu : Nat → Option Int32) (V : Nat → Nat → Option Int32) (B : Nat → Nat) (fc : Nat) (A : Nat → Nat → Option Int32) (n cb C : Nat), vs_t p fv fcI nw vv vt vs od fe cu V B fc ∧ lo_i fl lK lV lT lS bV bM D C A n cb ∧ C ≤ st ∧ (∀ k, k < 64 → B k ≤ st) ∧ cn_t (mb_b x3) 64 ≤ fc ∧ n + cn_t (mb_b x3) 64 ≤ nm ∧ cb + cn_t (mb_b x3) 64 ≤ cbm ∧ (∀ k, k < 64 → mb_b x3 k = true → mb_b wm k = true) ∧ (∀ k, k < 64 → cu k = if (mb_b wm k && !mb_b x3 k) = true then ov k else cu0 k) ∧ (∀ k, k < 64 → ∀ m, V m k = if st ≤ m ∧ (mb_b wm k && !mb_b x3 k) = true then ov k else V0 m k) ∧ (∀ k, k < 64 → ∀ m, A m k = if st ≤ m ∧ (mb_b wm k && !mb_b x3 k) = true then ov k else A0 m k) ∧ (∀ t, t < 4 → ∀ k, k < 64 → mb_b (dty t) k = (mb_b (d0 t) k || (mb_b wm k && !mb_b x3 k)))
section
variable {f_group : Int32} {f_present : Int64} {f_freeVersion : Int32} {f_freeCount : Int32} {f_tracked : Int32} {f_logLength : Int32} {f_baseMask : Int64} {f_commits : Int32} {f_durable : Int32} {a_newest : Nat → Int32} {a_verValue : Nat → Int32} {a_verThere : Nat → Int32} {a_verStamp : Nat → Int32} {a_verOlder : Nat → Int32} {a_fenwick : Nat → Int64} {a_open : Nat → Int32} {a_serial : Nat → Int32} {a_start : Nat → Int32} {a_readMask : Nat → Int64} {a_writeMask : Nat → Int64} {a_dirty : Nat → Int64} {a_writes : Nat → Int32} {a_writeKey : Nat → Int32} {a_writeValue : Nat → Int32} {a_writeThere : Nat → Int32} {a_writeBefore : Nat → Int32} {a_lastWrite : Nat → Int32} {a_saves : Nat → Int32} {a_saveAt : Nat → Int32} {a_trackNumber : Nat → Int32} {a_trackRead : Nat → Int64} {a_trackWrite : Nat → Int64} {a_trackIn : Nat → Int32} {a_trackOut : Nat → Int32} {a_logKey : Nat → Int32} {a_logValue : Nat → Int32} {a_logThere : Nat → Int32} {a_logStamp : Nat → Int32} {a_baseValue : Nat → Int32} {K N : Nat → Nat} {s : Nat}
theorem xw_c77 {post : Int32 → SX → Prop} {x2 : Int32} {st D nm cbm : Nat} {cu0 : Nat → Option Int32} {V0 A0 : Nat → Nat → Option Int32} {d0 : Nat → Int64} (hK6 : ∀ j, K j < 64) (W : wi_v K N a_writes a_writeBefore a_lastWrite a_writeMask) (hth : bl_ok a_writeThere) (hs : s < 4) (hc : f_commits = nI st) (hsb : st < 2 ^ 31) (hnm : nm ≤ 80)
    (hfin : ∀ p fv fcI nw vv vt vs od fe dty fl lK lV lT lS, pl_i (a_writeMask s) (fun k => ov_l (a_writeThere (ow_n K s (N s) k - 1)) (a_writeValue (ow_n K s (N s) k - 1))) st D nm cbm cu0 V0 A0 d0 a_baseValue f_baseMask 0 p fv fcI nw vv vt vs od fe dty fl lK lV lT lS → ((f_commits - f_durable) = f_group → wX_commit_153 post (nI s) x2 f_group p fv fcI f_tracked fl f_baseMask f_commits f_commits nw vv vt vs od fe a_open a_serial a_start a_readMask a_writeMask dty a_writes a_writeKey a_writeValue a_writeThere a_writeBefore a_lastWrite a_saves a_saveAt a_trackNumber a_trackRead a_trackWrite a_trackIn a_trackOut lK lV lT lS a_baseValue) ∧ (¬ (f_commits - f_durable) = f_group → wX_commit_153 post (nI s) x2 f_group p fv fcI f_tracked fl f_baseMask f_commits f_durable nw vv vt vs od fe a_open a_serial a_start a_readMask a_writeMask dty a_writes a_writeKey a_writeValue a_writeThere a_writeBefore a_lastWrite a_saves a_saveAt a_trackNumber a_trackRead a_trackWrite a_trackIn a_trackOut lK lV lT lS a_baseValue)) :
    ∀ f x3 p fv fcI nw vv vt vs od fe dty fl lK lV lT lS, mb_n x3 < f → pl_i (a_writeMask s) (fun k => ov_l (a_writeThere (ow_n K s (N s) k - 1)) (a_writeValue (ow_n K s (N s) k - 1))) st D nm cbm cu0 V0 A0 d0 a_baseValue f_baseMask x3 p fv fcI nw vv vt vs od fe dty fl lK lV lT lS → wX_commit_77 post (nI s) x2 f x3 f_group p fv fcI f_tracked fl f_baseMask f_commits f_durable nw vv vt vs od fe a_open a_serial a_start a_readMask a_writeMask dty a_writes a_writeKey a_writeValue a_writeThere a_writeBefore a_lastWrite a_saves a_saveAt a_trackNumber a_trackRead a_trackWrite a_trackIn a_trackOut lK lV lT lS a_baseValue := by
  intro f
  induction f with
  | zero => intro x3 p fv fcI nw vv vt vs od fe dty fl lK lV lT lS h; exact absurd h (by omega)
  | succ f ih =>
    intro x3 p fv fcI nw vv vt vs od fe dty fl lK lV lT lS hf hI
    by_cases e : x3 = 0
    · subst e
      exact br_t rfl (hfin p fv fcI nw vv vt vs od fe dty fl lK lV lT lS hI)
    · have lt := mb_nlt e
      obtain ⟨cu, V, B, fc, A, n, cb, C, S, L, i1, i2, i3, i4, i5, i6, i7, i8, i9, i10⟩ := hI
      refine br_f e (xw_lowest e (fun k hk hb hl => xw_own hs hk W ?_))
      have clr := mb_clr hb hl
      have cnt := mb_cnt hb hl
      have wk := i6 k hk hb
      have n12 := W.2.1 s
      have ol := ow_le (K := K) (s := s) (k := k) (N s)
      have o0 : 0 < ow_n K s (N s) k := by
        have z := wk
        rw [W.2.2.2.2 s hs, ws_b hK6] at z
        exact of_decide_eq_true z
      have in48 : vp_in (nI (ow_n K s (N s) k - 1)) 48 := vp_in_nI (by omega) (by decide)
      refine nm_r (e' := nI (ow_n K s (N s) k - 1)) (pk_sub (b := 1) (by omega)) ⟨in48, in48, ?_⟩
      rw [nI_clamp (by omega)]
      have pr : ∀ j, (mb_b (a_writeMask s) j && !mb_b (x3 &&& (x3 - 1)) j) = ((mb_b (a_writeMask s) j && !mb_b x3 j) || decide (j = k)) := by
        intro j
        rw [clr]
        by_cases c : j = k
        · rw [c, wk, decide_eq_true rfl, Bool.not_true, Bool.and_false, Bool.or_true]; rfl
        · rw [decide_eq_false c, Bool.not_false, Bool.and_true, Bool.or_false]
      refine xw_put hc hsb S hk (hth _) (by omega) (i2 k hk) (by omega) i1 L (fun p' fv' nw' vv' vt' vs' od' fe' lK' lV' lT' lS' S' L' => nm_e (ih _ _ _ _ _ _ _ _ _ _ _ _ _ _ _ _ (by omega) ⟨_, _, _, _, _, _, _, _, S', L', Nat.le_refl _, ?_, by omega, by omega, by omega, ?_, ?_, ?_, ?_, ?_⟩))
      · intro j hj
        by_cases c : j = k
        · rw [c, un_s]; exact Nat.le_refl _
        · rw [un_n c]; exact i2 j hj
      · intro j hj q
        rw [clr, Bool.and_eq_true] at q
        exact i6 j hj q.1
      · intro j hj
        rw [pr j]
        by_cases c : j = k
        · rw [c, un_s, decide_eq_true rfl, Bool.or_true, if_pos rfl]
        · rw [un_n c, decide_eq_false c, Bool.or_false]; exact i7 j hj
      · intro j hj m
        rw [pr j]
        show (if j = k ∧ st ≤ m then _ else V m j) = _
        by_cases c : j = k
        · rw [c, decide_eq_true rfl, Bool.or_true]
          by_cases d : st ≤ m
          · rw [if_pos ⟨rfl, d⟩, if_pos ⟨d, rfl⟩]
          · rw [if_neg (fun z => d z.2), if_neg (fun z => d z.1), i8 k hk m, if_neg (fun z => d z.1)]
        · rw [if_neg (fun z => c z.1), decide_eq_false c, Bool.or_false]; exact i8 j hj m
      · intro j hj m
        rw [pr j]
        show (if st ≤ m ∧ j = k then _ else A m j) = _
        by_cases c : j = k
        · rw [c, decide_eq_true rfl, Bool.or_true]
          by_cases d : st ≤ m
          · rw [if_pos ⟨d, rfl⟩, if_pos ⟨d, rfl⟩]
          · rw [if_neg (fun z => d z.1), if_neg (fun z => d z.1), i9 k hk m, if_neg (fun z => d z.1)]
        · rw [if_neg (fun z => c z.2), decide_eq_false c, Bool.or_false]; exact i9 j hj m
      · intro t ht j hj
        rw [pr j, dr_i 4 ht, mb_or, mb_tb hk, i10 t ht j hj, Bool.or_assoc]
end
end
section
/-! the relation -/
def wr_h (hc hk : Nat → Nat) (H m k : Nat) : Prop := ∃ i, i < H ∧ m < hc i ∧ hk i = k
theorem af_nw {hc hk : Nat → Nat} {hv ht : Nat → Int32} {H m C k : Nat} (hC : ∀ i, i < H → hc i ≤ C) (h : ¬ wr_h hc hk H m k) (hm : m ≤ C) : af_t hc hk hv ht m k H = af_t hc hk hv ht C k H := by
  apply la_c rfl
  · intro i hi
    by_cases c : hk i = k
    · have : hc i ≤ m := by
        apply Decidable.byContradiction
        intro z
        exact h ⟨i, hi, by omega, c⟩
      rw [decide_eq_true (p := hc i ≤ m) this, decide_eq_true (p := hc i ≤ C) (hC i hi)]
    · rw [decide_eq_false c, Bool.and_false, Bool.and_false]
  · intro i hi _; rfl
theorem vs_top {p : Int64} {fv fcI : Int32} {nw vv vt vs od : Nat → Int32} {fe : Nat → Int64} {cu : Nat → Option Int32} {V : Nat → Nat → Option Int32} {B : Nat → Nat} {fc k m : Nat} (S : vs_t p fv fcI nw vv vt vs od fe cu V B fc) (hk : k < 64) (hm : B k ≤ m) : V m k = cu k := by
  obtain ⟨nw', od', vs', fv', LL, g1, g2, g3, g4, g5, g6, g7, g8, g9, g10, g11, g12, g13⟩ := S
  rw [← g10 k hk m, ← g9 k hk]
  exact vw_h _ (fun v hv => Nat.le_trans (g11 k hk v hv) hm)
theorem vs_fc {p : Int64} {fv fcI : Int32} {nw vv vt vs od : Nat → Int32} {fe : Nat → Int64} {cu : Nat → Option Int32} {V : Nat → Nat → Option Int32} {B : Nat → Nat} {fc : Nat} (S : vs_t p fv fcI nw vv vt vs od fe cu V B fc) : fcI = nI fc ∧ fc < 344 := by
  obtain ⟨nw', od', vs', fv', LL, g1, g2, g3, g4, g5, g6, g7, g8, g9, g10, g11, g12, g13⟩ := S
  refine ⟨g6, ?_⟩
  have a : ls_m LL 64 + (LL 64).length = 343 := g8.2.2.2.2
  omega
def qa_n (k G C D T H : Nat) (N : Nat → Nat) (f_group f_commits f_durable : Int32) : Prop :=
  f_group = nI G ∧ 2 ≤ G ∧ G ≤ 6 ∧ f_commits = nI C ∧ f_durable = nI D ∧ D ≤ C ∧ C < D + G ∧ 5 * T + 1 ≤ k ∧ C ≤ T ∧ H + N 0 + N 1 + N 2 + N 3 ≤ T
def qb_s (C : Nat) (st N SV SA : Nat → Nat) (a_open a_serial a_start a_saves a_saveAt a_sCount y_saves : Nat → Int32) : Prop :=
  bl_ok a_open ∧ bl_ok a_serial ∧ (∀ s, a_start s = nI (st s)) ∧ (∀ s, st s < 2 ^ 31) ∧ (∀ s, s < 4 → a_open s ≠ 0 → st s ≤ C) ∧ (∀ s, s < 4 → a_open s = 0 → N s = 0 ∧ SV s = 0) ∧ (∀ s, s < 4 → a_open s ≠ 0 → a_sCount s = nI (N s) ∧ y_saves s = nI (SV s)) ∧ (∀ s, a_saves s = nI (SV s)) ∧ (∀ s, SV s ≤ 3) ∧ (∀ j, a_saveAt j = nI (SA j)) ∧ (∀ j, SA j ≤ 12) ∧ (∀ s, s < 4 → ∀ i, i < SV s → SA (3 * s + i) ≤ N s) ∧ (∀ s, s < 4 → ∀ i j, i ≤ j → j < SV s → SA (3 * s + i) ≤ SA (3 * s + j))
def qc_k (K N : Nat → Nat) (a_writes a_writeKey a_writeThere a_writeBefore a_lastWrite : Nat → Int32) (a_writeMask : Nat → Int64) : Prop :=
  (∀ j, a_writeKey j = nI (K j)) ∧ (∀ j, K j < 64) ∧ bl_ok a_writeThere ∧ wi_v K N a_writes a_writeBefore a_lastWrite a_writeMask
def qd_h (C H : Nat) (hc hk : Nat → Nat) (f_history : Int32) (a_hCommit a_hKey : Nat → Int32) : Prop :=
  hy_r f_history a_hCommit a_hKey hc hk H ∧ (∀ i, i < H → hc i ≤ C) ∧ (∀ i j, i ≤ j → j < H → hc i ≤ hc j)
def qe_v (C H : Nat) (st hc hk : Nat → Nat) (cu : Nat → Option Int32) (V : Nat → Nat → Option Int32) (B : Nat → Nat) (fc : Nat) (f_present : Int64) (f_freeVersion f_freeCount : Int32) (a_newest a_verValue a_verThere a_verStamp a_verOlder : Nat → Int32) (a_fenwick : Nat → Int64) (a_open : Nat → Int32) (a_dirty : Nat → Int64) (a_hValue a_hThere : Nat → Int32) : Prop :=
  vs_t f_present f_freeVersion f_freeCount a_newest a_verValue a_verThere a_verStamp a_verOlder a_fenwick cu V B fc ∧ (∀ k, k < 64 → cu k = af_t hc hk a_hValue a_hThere C k H) ∧ (∀ k, k < 64 → B k ≤ C) ∧ (∀ s, s < 4 → a_open s ≠ 0 → ∀ k, k < 64 → V (st s) k = af_t hc hk a_hValue a_hThere (st s) k H) ∧ (∀ s, s < 4 → a_open s ≠ 0 → ∀ k, k < 64 → mb_b (a_dirty s) k = pb_p (wr_h hc hk H (st s) k))
def qf_t (C t : Nat) (st cs tn : Nat → Nat) (f_tracked : Int32) (a_open a_serial a_trackNumber : Nat → Int32) (a_trackRead a_trackWrite : Nat → Int64) (a_trackIn a_trackOut a_cStart : Nat → Int32) (a_cRead a_cWrite : Nat → Int64) (a_known : Nat → Int32) : Prop :=
  tk_i a_known cs a_cRead a_cWrite C (li_v a_open a_serial st 4) f_tracked a_trackNumber a_trackRead a_trackWrite a_trackIn a_trackOut t tn ∧ t ≤ 8 ∧ (∀ j, a_cStart j = nI (cs j)) ∧ (∀ j, cs j < 2 ^ 31) ∧ (∀ m, a_known m ≠ 0 → 1 ≤ m ∧ m ≤ C ∧ cs m < m)
def qg_l (C D H n : Nat) (hc hk : Nat → Nat) (f_logLength : Int32) (f_baseMask : Int64) (a_logKey a_logValue a_logThere a_logStamp a_baseValue a_hValue a_hThere : Nat → Int32) : Prop :=
  lo_i f_logLength a_logKey a_logValue a_logThere a_logStamp a_baseValue f_baseMask D C (fun m k => af_t hc hk a_hValue a_hThere m k H) n (12 * (C - D)) ∧ n ≤ 72
def rl_f (k : Nat) (f_group : Int32) (f_present : Int64) (f_freeVersion : Int32) (f_freeCount : Int32) (f_tracked : Int32) (f_logLength : Int32) (f_baseMask : Int64) (f_commits : Int32) (f_durable : Int32) (a_newest : Nat → Int32) (a_verValue : Nat → Int32) (a_verThere : Nat → Int32) (a_verStamp : Nat → Int32) (a_verOlder : Nat → Int32) (a_fenwick : Nat → Int64) (a_open : Nat → Int32) (a_serial : Nat → Int32) (a_start : Nat → Int32) (a_readMask : Nat → Int64) (a_writeMask : Nat → Int64) (a_dirty : Nat → Int64) (a_writes : Nat → Int32) (a_writeKey : Nat → Int32) (a_writeValue : Nat → Int32) (a_writeThere : Nat → Int32) (a_writeBefore : Nat → Int32) (a_lastWrite : Nat → Int32) (a_saves : Nat → Int32) (a_saveAt : Nat → Int32) (a_trackNumber : Nat → Int32) (a_trackRead : Nat → Int64) (a_trackWrite : Nat → Int64) (a_trackIn : Nat → Int32) (a_trackOut : Nat → Int32) (a_logKey : Nat → Int32) (a_logValue : Nat → Int32) (a_logThere : Nat → Int32) (a_logStamp : Nat → Int32) (a_baseValue : Nat → Int32) (f_history : Int32) (a_hCommit a_hKey a_hValue a_hThere a_cStart : Nat → Int32) (a_cRead a_cWrite : Nat → Int64) (a_known a_sCount y_saves : Nat → Int32) : Prop :=
  ∃ (G C D T H : Nat) (st K N SV SA hc hk cs tn : Nat → Nat) (t : Nat) (cu : Nat → Option Int32) (V : Nat → Nat → Option Int32) (B : Nat → Nat) (fc n : Nat),
    qa_n k G C D T H N f_group f_commits f_durable ∧ qb_s C st N SV SA a_open a_serial a_start a_saves a_saveAt a_sCount y_saves ∧ qc_k K N a_writes a_writeKey a_writeThere a_writeBefore a_lastWrite a_writeMask ∧ qd_h C H hc hk f_history a_hCommit a_hKey ∧ qe_v C H st hc hk cu V B fc f_present f_freeVersion f_freeCount a_newest a_verValue a_verThere a_verStamp a_verOlder a_fenwick a_open a_dirty a_hValue a_hThere ∧ qf_t C t st cs tn f_tracked a_open a_serial a_trackNumber a_trackRead a_trackWrite a_trackIn a_trackOut a_cStart a_cRead a_cWrite a_known ∧ qg_l C D H n hc hk f_logLength f_baseMask a_logKey a_logValue a_logThere a_logStamp a_baseValue a_hValue a_hThere
/-- the relation: the two share what they keep alike; the rest by rl_f -/
def i_Rel (k : Nat) (u : SX) (v : SY) : Prop := match u, v with
  | (f_group, f_present, f_freeVersion, f_freeCount, f_tracked, f_logLength, f_baseMask, f_commits, f_durable, a_newest, a_verValue, a_verThere, a_verStamp, a_verOlder, a_fenwick, a_open, a_serial, a_start, a_readMask, a_writeMask, a_dirty, a_writes, a_writeKey, a_writeValue, a_writeThere, a_writeBefore, a_lastWrite, a_saves, a_saveAt, a_trackNumber, a_trackRead, a_trackWrite, a_trackIn, a_trackOut, a_logKey, a_logValue, a_logThere, a_logStamp, a_baseValue), (z_limit, z_commits, z_durable, f_history, a_hCommit, a_hKey, a_hValue, a_hThere, a_cStart, a_cRead, a_cWrite, a_known, z_open, z_strict, z_start, z_readSet, a_sCount, y_saves, z_sKey, z_sValue, z_sThere, z_saved) =>
    z_limit = f_group ∧ z_commits = f_commits ∧ z_durable = f_durable ∧ z_open = a_open ∧ z_strict = a_serial ∧ z_start = a_start ∧ z_readSet = a_readMask ∧ z_sKey = a_writeKey ∧ z_sValue = a_writeValue ∧ z_sThere = a_writeThere ∧ z_saved = a_saveAt ∧ rl_f k f_group f_present f_freeVersion f_freeCount f_tracked f_logLength f_baseMask f_commits f_durable a_newest a_verValue a_verThere a_verStamp a_verOlder a_fenwick a_open a_serial a_start a_readMask a_writeMask a_dirty a_writes a_writeKey a_writeValue a_writeThere a_writeBefore a_lastWrite a_saves a_saveAt a_trackNumber a_trackRead a_trackWrite a_trackIn a_trackOut a_logKey a_logValue a_logThere a_logStamp a_baseValue f_history a_hCommit a_hKey a_hValue a_hThere a_cStart a_cRead a_cWrite a_known a_sCount y_saves
theorem zz_in {k : Nat} {f_group : Int32} {f_present : Int64} {f_freeVersion : Int32} {f_freeCount : Int32} {f_tracked : Int32} {f_logLength : Int32} {f_baseMask : Int64} {f_commits : Int32} {f_durable : Int32} {a_newest : Nat → Int32} {a_verValue : Nat → Int32} {a_verThere : Nat → Int32} {a_verStamp : Nat → Int32} {a_verOlder : Nat → Int32} {a_fenwick : Nat → Int64} {a_open : Nat → Int32} {a_serial : Nat → Int32} {a_start : Nat → Int32} {a_readMask : Nat → Int64} {a_writeMask : Nat → Int64} {a_dirty : Nat → Int64} {a_writes : Nat → Int32} {a_writeKey : Nat → Int32} {a_writeValue : Nat → Int32} {a_writeThere : Nat → Int32} {a_writeBefore : Nat → Int32} {a_lastWrite : Nat → Int32} {a_saves : Nat → Int32} {a_saveAt : Nat → Int32} {a_trackNumber : Nat → Int32} {a_trackRead : Nat → Int64} {a_trackWrite : Nat → Int64} {a_trackIn : Nat → Int32} {a_trackOut : Nat → Int32} {a_logKey : Nat → Int32} {a_logValue : Nat → Int32} {a_logThere : Nat → Int32} {a_logStamp : Nat → Int32} {a_baseValue : Nat → Int32} {f_history : Int32} {a_hCommit a_hKey a_hValue a_hThere a_cStart : Nat → Int32} {a_cRead a_cWrite : Nat → Int64} {a_known a_sCount y_saves : Nat → Int32} (F : rl_f k f_group f_present f_freeVersion f_freeCount f_tracked f_logLength f_baseMask f_commits f_durable a_newest a_verValue a_verThere a_verStamp a_verOlder a_fenwick a_open a_serial a_start a_readMask a_writeMask a_dirty a_writes a_writeKey a_writeValue a_writeThere a_writeBefore a_lastWrite a_saves a_saveAt a_trackNumber a_trackRead a_trackWrite a_trackIn a_trackOut a_logKey a_logValue a_logThere a_logStamp a_baseValue f_history a_hCommit a_hKey a_hValue a_hThere a_cStart a_cRead a_cWrite a_known a_sCount y_saves) : i_Rel k (f_group, f_present, f_freeVersion, f_freeCount, f_tracked, f_logLength, f_baseMask, f_commits, f_durable, a_newest, a_verValue, a_verThere, a_verStamp, a_verOlder, a_fenwick, a_open, a_serial, a_start, a_readMask, a_writeMask, a_dirty, a_writes, a_writeKey, a_writeValue, a_writeThere, a_writeBefore, a_lastWrite, a_saves, a_saveAt, a_trackNumber, a_trackRead, a_trackWrite, a_trackIn, a_trackOut, a_logKey, a_logValue, a_logThere, a_logStamp, a_baseValue) (f_group, f_commits, f_durable, f_history, a_hCommit, a_hKey, a_hValue, a_hThere, a_cStart, a_cRead, a_cWrite, a_known, a_open, a_serial, a_start, a_readMask, a_sCount, y_saves, a_writeKey, a_writeValue, a_writeThere, a_saveAt) :=
  ⟨rfl, rfl, rfl, rfl, rfl, rfl, rfl, rfl, rfl, rfl, rfl, F⟩
theorem zz_el {P : SX → SY → Prop} {k : Nat} {u : SX} {v : SY} (I : i_Rel k u v) (h : ∀ (f_group : Int32) (f_present : Int64) (f_freeVersion : Int32) (f_freeCount : Int32) (f_tracked : Int32) (f_logLength : Int32) (f_baseMask : Int64) (f_commits : Int32) (f_durable : Int32) (a_newest : Nat → Int32) (a_verValue : Nat → Int32) (a_verThere : Nat → Int32) (a_verStamp : Nat → Int32) (a_verOlder : Nat → Int32) (a_fenwick : Nat → Int64) (a_open : Nat → Int32) (a_serial : Nat → Int32) (a_start : Nat → Int32) (a_readMask : Nat → Int64) (a_writeMask : Nat → Int64) (a_dirty : Nat → Int64) (a_writes : Nat → Int32) (a_writeKey : Nat → Int32) (a_writeValue : Nat → Int32) (a_writeThere : Nat → Int32) (a_writeBefore : Nat → Int32) (a_lastWrite : Nat → Int32) (a_saves : Nat → Int32) (a_saveAt : Nat → Int32) (a_trackNumber : Nat → Int32) (a_trackRead : Nat → Int64) (a_trackWrite : Nat → Int64) (a_trackIn : Nat → Int32) (a_trackOut : Nat → Int32) (a_logKey : Nat → Int32) (a_logValue : Nat → Int32) (a_logThere : Nat → Int32) (a_logStamp : Nat → Int32) (a_baseValue : Nat → Int32) (f_history : Int32) (a_hCommit a_hKey a_hValue a_hThere a_cStart : Nat → Int32) (a_cRead a_cWrite : Nat → Int64) (a_known a_sCount y_saves : Nat → Int32), rl_f k f_group f_present f_freeVersion f_freeCount f_tracked f_logLength f_baseMask f_commits f_durable a_newest a_verValue a_verThere a_verStamp a_verOlder a_fenwick a_open a_serial a_start a_readMask a_writeMask a_dirty a_writes a_writeKey a_writeValue a_writeThere a_writeBefore a_lastWrite a_saves a_saveAt a_trackNumber a_trackRead a_trackWrite a_trackIn a_trackOut a_logKey a_logValue a_logThere a_logStamp a_baseValue f_history a_hCommit a_hKey a_hValue a_hThere a_cStart a_cRead a_cWrite a_known a_sCount y_saves → P (f_group, f_present, f_freeVersion, f_freeCount, f_tracked, f_logLength, f_baseMask, f_commits, f_durable, a_newest, a_verValue, a_verThere, a_verStamp, a_verOlder, a_fenwick, a_open, a_serial, a_start, a_readMask, a_writeMask, a_dirty, a_writes, a_writeKey, a_writeValue, a_writeThere, a_writeBefore, a_lastWrite, a_saves, a_saveAt, a_trackNumber, a_trackRead, a_trackWrite, a_trackIn, a_trackOut, a_logKey, a_logValue, a_logThere, a_logStamp, a_baseValue) (f_group, f_commits, f_durable, f_history, a_hCommit, a_hKey, a_hValue, a_hThere, a_cStart, a_cRead, a_cWrite, a_known, a_open, a_serial, a_start, a_readMask, a_sCount, y_saves, a_writeKey, a_writeValue, a_writeThere, a_saveAt)) : P u v := by
  obtain ⟨f_group, f_present, f_freeVersion, f_freeCount, f_tracked, f_logLength, f_baseMask, f_commits, f_durable, a_newest, a_verValue, a_verThere, a_verStamp, a_verOlder, a_fenwick, a_open, a_serial, a_start, a_readMask, a_writeMask, a_dirty, a_writes, a_writeKey, a_writeValue, a_writeThere, a_writeBefore, a_lastWrite, a_saves, a_saveAt, a_trackNumber, a_trackRead, a_trackWrite, a_trackIn, a_trackOut, a_logKey, a_logValue, a_logThere, a_logStamp, a_baseValue⟩ := u
  obtain ⟨z_limit, z_commits, z_durable, f_history, a_hCommit, a_hKey, a_hValue, a_hThere, a_cStart, a_cRead, a_cWrite, a_known, z_open, z_strict, z_start, z_readSet, a_sCount, y_saves, z_sKey, z_sValue, z_sThere, z_saved⟩ := v
  obtain ⟨e1, e2, e3, e4, e5, e6, e7, e8, e9, e10, e11, F⟩ := I
  subst e1 e2 e3 e4 e5 e6 e7 e8 e9 e10 e11
  exact h _ _ _ _ _ _ _ _ _ _ _ _ _ _ _ _ _ _ _ _ _ _ _ _ _ _ _ _ _ _ _ _ _ _ _ _ _ _ _ _ _ _ _ _ _ _ _ _ _ _ F
theorem rl_up {k : Nat} {f_group : Int32} {f_present : Int64} {f_freeVersion : Int32} {f_freeCount : Int32} {f_tracked : Int32} {f_logLength : Int32} {f_baseMask : Int64} {f_commits : Int32} {f_durable : Int32} {a_newest : Nat → Int32} {a_verValue : Nat → Int32} {a_verThere : Nat → Int32} {a_verStamp : Nat → Int32} {a_verOlder : Nat → Int32} {a_fenwick : Nat → Int64} {a_open : Nat → Int32} {a_serial : Nat → Int32} {a_start : Nat → Int32} {a_readMask : Nat → Int64} {a_writeMask : Nat → Int64} {a_dirty : Nat → Int64} {a_writes : Nat → Int32} {a_writeKey : Nat → Int32} {a_writeValue : Nat → Int32} {a_writeThere : Nat → Int32} {a_writeBefore : Nat → Int32} {a_lastWrite : Nat → Int32} {a_saves : Nat → Int32} {a_saveAt : Nat → Int32} {a_trackNumber : Nat → Int32} {a_trackRead : Nat → Int64} {a_trackWrite : Nat → Int64} {a_trackIn : Nat → Int32} {a_trackOut : Nat → Int32} {a_logKey : Nat → Int32} {a_logValue : Nat → Int32} {a_logThere : Nat → Int32} {a_logStamp : Nat → Int32} {a_baseValue : Nat → Int32} {f_history : Int32} {a_hCommit a_hKey a_hValue a_hThere a_cStart : Nat → Int32} {a_cRead a_cWrite : Nat → Int64} {a_known a_sCount y_saves : Nat → Int32} (F : rl_f k f_group f_present f_freeVersion f_freeCount f_tracked f_logLength f_baseMask f_commits f_durable a_newest a_verValue a_verThere a_verStamp a_verOlder a_fenwick a_open a_serial a_start a_readMask a_writeMask a_dirty a_writes a_writeKey a_writeValue a_writeThere a_writeBefore a_lastWrite a_saves a_saveAt a_trackNumber a_trackRead a_trackWrite a_trackIn a_trackOut a_logKey a_logValue a_logThere a_logStamp a_baseValue f_history a_hCommit a_hKey a_hValue a_hThere a_cStart a_cRead a_cWrite a_known a_sCount y_saves) : rl_f (k + 5) f_group f_present f_freeVersion f_freeCount f_tracked f_logLength f_baseMask f_commits f_durable a_newest a_verValue a_verThere a_verStamp a_verOlder a_fenwick a_open a_serial a_start a_readMask a_writeMask a_dirty a_writes a_writeKey a_writeValue a_writeThere a_writeBefore a_lastWrite a_saves a_saveAt a_trackNumber a_trackRead a_trackWrite a_trackIn a_trackOut a_logKey a_logValue a_logThere a_logStamp a_baseValue f_history a_hCommit a_hKey a_hValue a_hThere a_cStart a_cRead a_cWrite a_known a_sCount y_saves := by
  obtain ⟨G, C, D, T, H, st, K, N, SV, SA, hc, hk, cs, tn, t, cu, V, B, fc, n, q1, q2, q3, q4, q5, q6, q7⟩ := F
  obtain ⟨a1, a2, a3, a4, a5, a6, a7, a8, a9, a10⟩ := q1
  exact ⟨G, C, D, T, H, st, K, N, SV, SA, hc, hk, cs, tn, t, cu, V, B, fc, n, ⟨a1, a2, a3, a4, a5, a6, a7, by omega, a9, a10⟩, q2, q3, q4, q5, q6, q7⟩
theorem i_up {k : Nat} {u : SX} {v : SY} (h : i_Rel k u v) : i_Rel (k + 5) u v :=
  zz_el (P := fun u v => i_Rel (k + 5) u v) h (fun _ _ _ _ _ _ _ _ _ _ _ _ _ _ _ _ _ _ _ _ _ _ _ _ _ _ _ _ _ _ _ _ _ _ _ _ _ _ _ _ _ _ _ _ _ _ _ _ _ _ F => zz_in (rl_up F))
end
section
/-! the constructors; the calls that only look; begin, sync -/
theorem rl_0 {G : Nat} (h2 : 2 ≤ G) (h6 : G ≤ 6) {fV : Int32} {nw ao : Nat → Int32} {fe : Nat → Int64} (S : vs_t 0 fV (nI 343) nw (fun _ => 0) (fun _ => 0) (fun _ => 0) ao fe (fun _ => none) (fun _ _ => none) (fun _ => 0) 343) : rl_f 1 (nI G) 0 fV (nI 343) 0 0 0 0 0 nw (fun _ => 0) (fun _ => 0) (fun _ => 0) ao fe (fun _ => 0) (fun _ => 0) (fun _ => 0) (fun _ => 0) (fun _ => 0) (fun _ => 0) (fun _ => 0) (fun _ => 0) (fun _ => 0) (fun _ => 0) (fun _ => 0) (fun _ => 0) (fun _ => 0) (fun _ => 0) (fun _ => 0) (fun _ => 0) (fun _ => 0) (fun _ => 0) (fun _ => 0) (fun _ => 0) (fun _ => 0) (fun _ => 0) (fun _ => 0) (fun _ => 0) 0 (fun _ => 0) (fun _ => 0) (fun _ => 0) (fun _ => 0) (fun _ => 0) (fun _ => 0) (fun _ => 0) (fun _ => 0) (fun _ => 0) (fun _ => 0) := by
  have b0 : bl_ok (fun _ => 0) := fun _ => Or.inl rfl
  have n0 : ∀ j : Nat, (fun _ => 0 : Nat → Int32) j = nI ((fun _ => 0 : Nat → Nat) j) := fun _ => rfl
  have lt : ∀ j : Nat, (fun _ => 0 : Nat → Nat) j < 2 ^ 31 := fun _ => by show 0 < 2 ^ 31; decide
  refine ⟨G, 0, 0, 0, 0, fun _ => 0, fun _ => 0, fun _ => 0, fun _ => 0, fun _ => 0, fun _ => 0, fun _ => 0, fun _ => 0, fun _ => 0, 0, fun _ => none, fun _ _ => none, fun _ => 0, 343, 0, ?_, ?_, ?_, ?_, ?_, ?_, ?_⟩
  · exact ⟨rfl, h2, h6, rfl, rfl, Nat.le_refl _, by omega, by omega, Nat.le_refl _, Nat.le_refl _⟩
  · exact ⟨b0, b0, n0, lt, fun _ _ h => absurd rfl h, fun _ _ _ => ⟨rfl, rfl⟩, fun _ _ h => absurd rfl h, n0, fun _ => Nat.zero_le _, n0, fun _ => Nat.zero_le _, fun _ _ _ h => absurd h (Nat.not_lt_zero _), fun _ _ _ _ _ h => absurd h (Nat.not_lt_zero _)⟩
  · exact ⟨n0, fun _ => by show 0 < 64; decide, b0, n0, fun _ => Nat.zero_le _, fun _ _ _ _ => rfl, fun _ _ _ h => absurd h (Nat.not_lt_zero _), fun _ _ => rfl⟩
  · exact ⟨⟨rfl, by decide, fun j => ⟨rfl, lt j, rfl, by show 0 < 64; decide⟩⟩, fun _ h => absurd h (Nat.not_lt_zero _), fun _ _ _ h => absurd h (Nat.not_lt_zero _)⟩
  · exact ⟨S, fun _ _ => rfl, fun _ _ => Nat.le_refl _, fun _ _ h => absurd rfl h, fun _ _ h => absurd rfl h⟩
  · exact ⟨⟨rfl, fun _ h => absurd h (Nat.not_lt_zero _), fun _ _ _ h => absurd h (Nat.not_lt_zero _), fun _ h => absurd h (Nat.not_lt_zero _), fun _ h => absurd rfl h, fun _ h => absurd h (Nat.not_lt_zero _)⟩, Nat.zero_le _, n0, lt, fun _ h => absurd rfl h⟩
  · refine ⟨⟨fun _ => 0, fun _ => 0, rfl, n0, fun _ => by show 0 < 64; decide, n0, lt, b0, fun _ _ _ h => absurd h (Nat.not_lt_zero _), fun _ h => absurd h (Nat.not_lt_zero _), Nat.le_refl _, ?_⟩, by decide⟩
    intro m _ k _
    show ba_s (fun _ => 0) 0 k = none
    unfold ba_s
    rw [mb_0, if_neg (by decide)]
theorem i_vc0_G {G : Nat} (h2 : 2 ≤ G) (h6 : G ≤ 6) {post : SX → Prop} (hp : ∀ fV nw ao fe, vs_t 0 fV (nI 343) nw (fun _ => 0) (fun _ => 0) (fun _ => 0) ao fe (fun _ => none) (fun _ _ => none) (fun _ => 0) 343 → post (nI G, 0, fV, nI 343, 0, 0, 0, 0, 0, nw, (fun _ => 0), (fun _ => 0), (fun _ => 0), ao, fe, (fun _ => 0), (fun _ => 0), (fun _ => 0), (fun _ => 0), (fun _ => 0), (fun _ => 0), (fun _ => 0), (fun _ => 0), (fun _ => 0), (fun _ => 0), (fun _ => 0), (fun _ => 0), (fun _ => 0), (fun _ => 0), (fun _ => 0), (fun _ => 0), (fun _ => 0), (fun _ => 0), (fun _ => 0), (fun _ => 0), (fun _ => 0), (fun _ => 0), (fun _ => 0), (fun _ => 0))) : wX_init_263 post (nI G) 0 0 0 0 0 0 0 0 0 (fun _ => 0) (fun _ => 0) (fun _ => 0) (fun _ => 0) (fun _ => 0) (fun _ => 0) (fun _ => 0) (fun _ => 0) (fun _ => 0) (fun _ => 0) (fun _ => 0) (fun _ => 0) (fun _ => 0) (fun _ => 0) (fun _ => 0) (fun _ => 0) (fun _ => 0) (fun _ => 0) (fun _ => 0) (fun _ => 0) (fun _ => 0) (fun _ => 0) (fun _ => 0) (fun _ => 0) (fun _ => 0) (fun _ => 0) (fun _ => 0) (fun _ => 0) (fun _ => 0) (fun _ => 0) := by
  have n0 : ∀ j : Nat, (fun _ => 0 : Nat → Int32) j = nI ((fun _ => 0 : Nat → Nat) j) := fun _ => rfl
  unfold wX_init_263
  exact xw_clear n0 n0 n0 (fun _ => by show 0 < 2 ^ 31; decide) (fun fV nw ao fe S => hp fV nw ao fe S)
theorem i_vc0 (k0 : Int32) : wpX_init (fun u => wpY_init (fun v => i_Rel 1 u v) k0) k0 := by
  have fin : ∀ G, 2 ≤ G → G ≤ 6 → ∀ fV nw ao fe, vs_t 0 fV (nI 343) nw (fun _ => 0) (fun _ => 0) (fun _ => 0) ao fe (fun _ => none) (fun _ _ => none) (fun _ => 0) 343 → i_Rel 1 (nI G, 0, fV, nI 343, 0, 0, 0, 0, 0, nw, (fun _ => 0), (fun _ => 0), (fun _ => 0), ao, fe, (fun _ => 0), (fun _ => 0), (fun _ => 0), (fun _ => 0), (fun _ => 0), (fun _ => 0), (fun _ => 0), (fun _ => 0), (fun _ => 0), (fun _ => 0), (fun _ => 0), (fun _ => 0), (fun _ => 0), (fun _ => 0), (fun _ => 0), (fun _ => 0), (fun _ => 0), (fun _ => 0), (fun _ => 0), (fun _ => 0), (fun _ => 0), (fun _ => 0), (fun _ => 0), (fun _ => 0)) (nI G, 0, 0, 0, (fun _ => 0), (fun _ => 0), (fun _ => 0), (fun _ => 0), (fun _ => 0), (fun _ => 0), (fun _ => 0), (fun _ => 0), (fun _ => 0), (fun _ => 0), (fun _ => 0), (fun _ => 0), (fun _ => 0), (fun _ => 0), (fun _ => 0), (fun _ => 0), (fun _ => 0), (fun _ => 0)) := by
    intro G h2 h6 fV nw ao fe S
    exact zz_in (rl_0 h2 h6 S)
  unfold wpX_init
  by_cases c : (2 : Int32) ≤ k0
  · refine br_t c ?_
    by_cases d : k0 ≤ 6
    · refine br_t d ?_
      obtain ⟨G, hG, rfl⟩ := nI_of (x := k0) (Int32.not_lt.mpr (Int32.le_trans (by decide) c))
      have h2 : 2 ≤ G := (nI_leI (a := 2) (by decide) hG).mp c
      have h6 : G ≤ 6 := (nI_leI (b := 6) hG (by decide)).mp d
      exact i_vc0_G h2 h6 (fun fV nw ao fe S => br_t c (br_t d (fin G h2 h6 fV nw ao fe S)))
    · refine br_f d ?_
      exact i_vc0_G (G := 6) (by decide) (by decide) (fun fV nw ao fe S => br_t c (br_f d (fin 6 (by decide) (by decide) fV nw ao fe S)))
  · refine br_f c ?_
    exact i_vc0_G (G := 2) (by decide) (by decide) (fun fV nw ao fe S => br_f c (fin 2 (by decide) (by decide) fV nw ao fe S))
theorem i_vc_sync {k : Nat} {u : SX} {v : SY} (I : i_Rel k u v) (hk : k + 5 ≤ 2561) : wpX_sync (fun r u' => wpY_sync (fun r' v' => r' = r ∧ i_Rel (k + 5) u' v') v) u := by
  refine zz_el (P := fun u v => wpX_sync (fun r u' => wpY_sync (fun r' v' => r' = r ∧ i_Rel (k + 5) u' v') v) u) I ?_
  intro f_group f_present f_freeVersion f_freeCount f_tracked f_logLength f_baseMask f_commits f_durable a_newest a_verValue a_verThere a_verStamp a_verOlder a_fenwick a_open a_serial a_start a_readMask a_writeMask a_dirty a_writes a_writeKey a_writeValue a_writeThere a_writeBefore a_lastWrite a_saves a_saveAt a_trackNumber a_trackRead a_trackWrite a_trackIn a_trackOut a_logKey a_logValue a_logThere a_logStamp a_baseValue f_history a_hCommit a_hKey a_hValue a_hThere a_cStart a_cRead a_cWrite a_known a_sCount y_saves F
  obtain ⟨G, C, D, T, H, st, K, N, SV, SA, hc, hq, cs, tn, t, cu, V, B, fc, n, q1, q2, q3, q4, q5, q6, q7⟩ := F
  obtain ⟨a1, a2, a3, a4, a5, a6, a7, a8, a9, a10⟩ := q1
  unfold wpX_sync wpY_sync
  refine ⟨rfl, zz_in ⟨G, C, C, T, H, st, K, N, SV, SA, hc, hq, cs, tn, t, cu, V, B, fc, n, ⟨a1, a2, a3, a4, a4, Nat.le_refl _, by omega, by omega, a9, a10⟩, q2, q3, q4, q5, q6, ?_, q7.2⟩⟩
  exact lo_ext (lo_dur q7.1 a6) (Nat.le_refl _) (Nat.le_refl _) (fun _ _ _ _ => rfl) (Nat.zero_le _)
section
variable {f_limit : Int32} {f_commits : Int32} {f_durable : Int32} {f_history : Int32} {a_hCommit : Nat → Int32} {a_hKey : Nat → Int32} {a_hValue : Nat → Int32} {a_hThere : Nat → Int32} {a_cStart : Nat → Int32} {a_cRead : Nat → Int64} {a_cWrite : Nat → Int64} {a_known : Nat → Int32} {a_open : Nat → Int32} {a_strict : Nat → Int32} {a_start : Nat → Int32} {a_readSet : Nat → Int64} {a_sCount : Nat → Int32} {a_saves : Nat → Int32} {a_sKey : Nat → Int32} {a_sValue : Nat → Int32} {a_sThere : Nat → Int32} {a_saved : Nat → Int32}
theorem yw_row_t {post : Int64 → Prop} {hc hq : Nat → Nat} {H C j : Nat} (R : hy_r f_history a_hCommit a_hKey hc hq H) (hC : f_commits = nI C) (hCb : C < 2 ^ 31) (hj : j < 64) (hp : post (en_c (af_t hc hq a_hValue a_hThere C j H))) : wpY_row post (f_limit, f_commits, f_durable, f_history, a_hCommit, a_hKey, a_hValue, a_hThere, a_cStart, a_cRead, a_cWrite, a_known, a_open, a_strict, a_start, a_readSet, a_sCount, a_saves, a_sKey, a_sValue, a_sThere, a_saved) (nI j) := by
  unfold wpY_row
  subst hC
  exact yw_isKey_t hj (br_f (by decide) (yw_after R hCb hj hp))
theorem yw_row_f {post : Int64 → Prop} {x : Int32} (h : ¬ ok_k x) (hp : post (-1000000000000)) : wpY_row post (f_limit, f_commits, f_durable, f_history, a_hCommit, a_hKey, a_hValue, a_hThere, a_cStart, a_cRead, a_cWrite, a_known, a_open, a_strict, a_start, a_readSet, a_sCount, a_saves, a_sKey, a_sValue, a_sThere, a_saved) x := by
  unfold wpY_row
  exact yw_isKey_f h (br_t rfl hp)
theorem yw_seen_t {post : Int32 → Prop} {hc hq : Nat → Nat} {H m : Nat} {K : Nat → Nat} {s n j : Nat} (R : hy_r f_history a_hCommit a_hKey hc hq H) (hs : s < 4) (ho : a_open s ≠ 0) (hn : n ≤ 12) (hj : j < 64) (hm : m < 2 ^ 31) (hst : a_start s = nI m) (hcn : a_sCount s = nI n) (hK : ∀ j, a_sKey j = nI (K j)) (hK6 : ∀ j, K j < 64) (hp : post (bl_i (sn_v K a_sValue a_sThere s n j (af_t hc hq a_hValue a_hThere m j H)).isSome)) : wpY_seen post (f_limit, f_commits, f_durable, f_history, a_hCommit, a_hKey, a_hValue, a_hThere, a_cStart, a_cRead, a_cWrite, a_known, a_open, a_strict, a_start, a_readSet, a_sCount, a_saves, a_sKey, a_sValue, a_sThere, a_saved) (nI s) (nI j) := by
  unfold wpY_seen
  refine yw_isOpen_t hs ho (br_f (by decide) (yw_isKey_t hj (br_f (by decide) (yw_sees R hs hn hj hm hst hcn hK hK6 (br_c (fun z => ?_) (fun z => ?_))))))
  · rw [en_a.mp z] at hp; exact hp
  · cases hv : sn_v K a_sValue a_sThere s n j (af_t hc hq a_hValue a_hThere m j H) with
    | none => exact absurd (en_a.mpr hv) z
    | some x => rw [hv] at hp; exact hp
theorem yw_seen_f {post : Int32 → Prop} {x y : Int32} (h : ¬ (ok_4 a_open x ∧ ok_k y)) (hp : post 0) : wpY_seen post (f_limit, f_commits, f_durable, f_history, a_hCommit, a_hKey, a_hValue, a_hThere, a_cStart, a_cRead, a_cWrite, a_known, a_open, a_strict, a_start, a_readSet, a_sCount, a_saves, a_sKey, a_sValue, a_sThere, a_saved) x y := by
  unfold wpY_seen
  by_cases c : ok_4 a_open x
  · obtain ⟨s, hs, rfl, ho⟩ := c
    exact yw_isOpen_t hs ho (br_f (by decide) (yw_isKey_f (fun z => h ⟨⟨s, hs, rfl, ho⟩, z⟩) (br_t rfl hp)))
  · exact yw_isOpen_f c (br_t rfl hp)
theorem yw_sp_t {post : Int32 → Prop} {s : Nat} (hs : s < 4) (ho : a_open s ≠ 0) (hp : post (a_saves s)) : wpY_savepoints post (f_limit, f_commits, f_durable, f_history, a_hCommit, a_hKey, a_hValue, a_hThere, a_cStart, a_cRead, a_cWrite, a_known, a_open, a_strict, a_start, a_readSet, a_sCount, a_saves, a_sKey, a_sValue, a_sThere, a_saved) (nI s) := by
  unfold wpY_savepoints
  refine yw_isOpen_t hs ho (br_f (by decide) ⟨vp_in_nI hs (by decide), ?_⟩)
  rw [nI_clamp (by omega)]; exact hp
theorem yw_sp_f {post : Int32 → Prop} {x : Int32} (h : ¬ ok_4 a_open x) (hp : post (-1)) : wpY_savepoints post (f_limit, f_commits, f_durable, f_history, a_hCommit, a_hKey, a_hValue, a_hThere, a_cStart, a_cRead, a_cWrite, a_known, a_open, a_strict, a_start, a_readSet, a_sCount, a_saves, a_sKey, a_sValue, a_sThere, a_saved) x := by
  unfold wpY_savepoints
  exact yw_isOpen_f h (br_t rfl hp)
theorem yw_count_s {post : Int32 → Prop} {K : Nat → Nat} {s : Nat} (hs : s < 4) (hp0 : a_open s = 0 → post 0) (hp1 : a_open s ≠ 0 → ∃ n, n ≤ 12 ∧ a_sCount s = nI n ∧ post (nI (cn_t (mb_b (ws_t K s n)) 64))) (hK : ∀ j, a_sKey j = nI (K j)) : wpY_count post (f_limit, f_commits, f_durable, f_history, a_hCommit, a_hKey, a_hValue, a_hThere, a_cStart, a_cRead, a_cWrite, a_known, a_open, a_strict, a_start, a_readSet, a_sCount, a_saves, a_sKey, a_sValue, a_sThere, a_saved) (nI (s + 3)) := by
  unfold wpY_count
  have e : nI (s + 3) - 3 = nI s := pk_sub (a := s + 3) (b := 3) (by omega)
  refine pk_eq (s + 3) 0 (fun z => absurd z (by omega)) (fun _ => pk_eq (s + 3) 1 (fun z => absurd z (by omega)) (fun _ => pk_eq (s + 3) 2 (fun z => absurd z (by omega)) (fun _ => pk_lt (s + 3) 3 (fun z => absurd z (by omega)) (fun _ => pk_le (s + 3) 6 (fun _ => ?_) (fun z => absurd z (by omega))))))
  rw [e]
  refine ⟨vp_in_nI hs (by decide), ?_⟩
  rw [nI_clamp (by omega)]
  refine br_c hp0 (fun z => ?_)
  obtain ⟨n, hn, hcn, hp⟩ := hp1 z
  refine yw_writeSet hs hn hcn hK ⟨mb_n (ws_t K s n) + 1, ?_⟩
  refine yw_cnt_go (mb_n (ws_t K s n) + 1) 0 (ws_t K s n) (by omega) ?_
  rw [Nat.zero_add]; exact hp
end
section
variable {f_group : Int32} {f_present : Int64} {f_freeVersion : Int32} {f_freeCount : Int32} {f_tracked : Int32} {f_logLength : Int32} {f_baseMask : Int64} {f_commits : Int32} {f_durable : Int32} {a_newest : Nat → Int32} {a_verValue : Nat → Int32} {a_verThere : Nat → Int32} {a_verStamp : Nat → Int32} {a_verOlder : Nat → Int32} {a_fenwick : Nat → Int64} {a_open : Nat → Int32} {a_serial : Nat → Int32} {a_start : Nat → Int32} {a_readMask : Nat → Int64} {a_writeMask : Nat → Int64} {a_dirty : Nat → Int64} {a_writes : Nat → Int32} {a_writeKey : Nat → Int32} {a_writeValue : Nat → Int32} {a_writeThere : Nat → Int32} {a_writeBefore : Nat → Int32} {a_lastWrite : Nat → Int32} {a_saves : Nat → Int32} {a_saveAt : Nat → Int32} {a_trackNumber : Nat → Int32} {a_trackRead : Nat → Int64} {a_trackWrite : Nat → Int64} {a_trackIn : Nat → Int32} {a_trackOut : Nat → Int32} {a_logKey : Nat → Int32} {a_logValue : Nat → Int32} {a_logThere : Nat → Int32} {a_logStamp : Nat → Int32} {a_baseValue : Nat → Int32} {cu : Nat → Option Int32} {V : Nat → Nat → Option Int32} {B : Nat → Nat} {fc : Nat}
theorem xw_row_t {post : Int64 → Prop} {j : Nat} (S : vs_t f_present f_freeVersion f_freeCount a_newest a_verValue a_verThere a_verStamp a_verOlder a_fenwick cu V B fc) (hj : j < 64) (hp : post (en_c (cu j))) : wpX_row post (f_group, f_present, f_freeVersion, f_freeCount, f_tracked, f_logLength, f_baseMask, f_commits, f_durable, a_newest, a_verValue, a_verThere, a_verStamp, a_verOlder, a_fenwick, a_open, a_serial, a_start, a_readMask, a_writeMask, a_dirty, a_writes, a_writeKey, a_writeValue, a_writeThere, a_writeBefore, a_lastWrite, a_saves, a_saveAt, a_trackNumber, a_trackRead, a_trackWrite, a_trackIn, a_trackOut, a_logKey, a_logValue, a_logThere, a_logStamp, a_baseValue) (nI j) := by
  have hpr : ∀ j, j < 64 → mb_b f_present j = (cu j).isSome := by
    obtain ⟨nw, od, vs, fv, LL, h1, h2, h3, h4, h5, h6, h7, h8, h9, h10, h11, h12, h13⟩ := S
    exact h12
  have h1 := hpr j hj
  unfold wpX_row
  refine xw_key_t hj (br_t rfl (xw_bit (br_c (fun z => ?_) (fun z => ?_))))
  · rw [(mb_t0 hj _).mp z] at h1
    cases hv : cu j with
    | none => rw [hv] at hp; exact hp
    | some x => rw [hv] at h1; exact absurd h1 (show ¬ false = true by decide)
  · rw [(mb_t1 hj _).mp z] at h1
    cases hv : cu j with
    | none => rw [hv] at h1; exact absurd h1 (by decide)
    | some x =>
      rw [hv] at hp
      obtain ⟨w, w3, e1, e2⟩ := xw_newest S hj
      refine ⟨vp_in_nI hj (by decide), ?_⟩
      rw [nI_clamp (by omega), e1]
      refine ⟨vp_in_nI w3 (by decide), ?_⟩
      rw [nI_clamp (by omega), e2 x hv]; exact hp
theorem xw_row_f {post : Int64 → Prop} {x : Int32} (h : ¬ ok_k x) (hp : post (-1000000000000)) : wpX_row post (f_group, f_present, f_freeVersion, f_freeCount, f_tracked, f_logLength, f_baseMask, f_commits, f_durable, a_newest, a_verValue, a_verThere, a_verStamp, a_verOlder, a_fenwick, a_open, a_serial, a_start, a_readMask, a_writeMask, a_dirty, a_writes, a_writeKey, a_writeValue, a_writeThere, a_writeBefore, a_lastWrite, a_saves, a_saveAt, a_trackNumber, a_trackRead, a_trackWrite, a_trackIn, a_trackOut, a_logKey, a_logValue, a_logThere, a_logStamp, a_baseValue) x := by
  unfold wpX_row
  exact xw_key_f h (br_f (by decide) hp)
theorem xw_seen_t {post : Int32 → Prop} {K N : Nat → Nat} {s m j : Nat} (S : vs_t f_present f_freeVersion f_freeCount a_newest a_verValue a_verThere a_verStamp a_verOlder a_fenwick cu V B fc) (W : wi_v K N a_writes a_writeBefore a_lastWrite a_writeMask) (hth : bl_ok a_writeThere) (hs : s < 4) (ho : a_open s ≠ 0) (hst : a_start s = nI m) (hm : m < 2 ^ 31) (hd : ∀ k, k < 64 → mb_b (a_dirty s) k = false → V m k = cu k) (hj : j < 64) (hp : post (bl_i (sn_v K a_writeValue a_writeThere s (N s) j (V m j)).isSome)) : wpX_seen post (f_group, f_present, f_freeVersion, f_freeCount, f_tracked, f_logLength, f_baseMask, f_commits, f_durable, a_newest, a_verValue, a_verThere, a_verStamp, a_verOlder, a_fenwick, a_open, a_serial, a_start, a_readMask, a_writeMask, a_dirty, a_writes, a_writeKey, a_writeValue, a_writeThere, a_writeBefore, a_lastWrite, a_saves, a_saveAt, a_trackNumber, a_trackRead, a_trackWrite, a_trackIn, a_trackOut, a_logKey, a_logValue, a_logThere, a_logStamp, a_baseValue) (nI s) (nI j) := by
  unfold wpX_seen
  refine xw_idle_t hs ho (br_t rfl (xw_key_t hj (br_t rfl (xw_sees S W hth hs hst hm hd hj ?_))))
  cases h : (sn_v K a_writeValue a_writeThere s (N s) j (V m j)).isSome
  · rw [h] at hp; exact br_t rfl hp
  · rw [h] at hp; exact br_f (by decide) hp
theorem xw_seen_f {post : Int32 → Prop} {x y : Int32} (h : ¬ (ok_4 a_open x ∧ ok_k y)) (hp : post 0) : wpX_seen post (f_group, f_present, f_freeVersion, f_freeCount, f_tracked, f_logLength, f_baseMask, f_commits, f_durable, a_newest, a_verValue, a_verThere, a_verStamp, a_verOlder, a_fenwick, a_open, a_serial, a_start, a_readMask, a_writeMask, a_dirty, a_writes, a_writeKey, a_writeValue, a_writeThere, a_writeBefore, a_lastWrite, a_saves, a_saveAt, a_trackNumber, a_trackRead, a_trackWrite, a_trackIn, a_trackOut, a_logKey, a_logValue, a_logThere, a_logStamp, a_baseValue) x y := by
  unfold wpX_seen
  by_cases c : ok_4 a_open x
  · obtain ⟨s, hs, rfl, ho⟩ := c
    exact xw_idle_t hs ho (br_t rfl (xw_key_f (fun z => h ⟨⟨s, hs, rfl, ho⟩, z⟩) (br_f (by decide) hp)))
  · exact xw_idle_f c (br_f (by decide) hp)
theorem xw_sp_t {post : Int32 → Prop} {s : Nat} (hs : s < 4) (ho : a_open s ≠ 0) (hp : post (a_saves s)) : wpX_savepoints post (f_group, f_present, f_freeVersion, f_freeCount, f_tracked, f_logLength, f_baseMask, f_commits, f_durable, a_newest, a_verValue, a_verThere, a_verStamp, a_verOlder, a_fenwick, a_open, a_serial, a_start, a_readMask, a_writeMask, a_dirty, a_writes, a_writeKey, a_writeValue, a_writeThere, a_writeBefore, a_lastWrite, a_saves, a_saveAt, a_trackNumber, a_trackRead, a_trackWrite, a_trackIn, a_trackOut, a_logKey, a_logValue, a_logThere, a_logStamp, a_baseValue) (nI s) := by
  unfold wpX_savepoints
  refine xw_idle_t hs ho (br_t rfl ⟨vp_in_nI hs (by decide), ?_⟩)
  rw [nI_clamp (by omega)]; exact hp
theorem xw_sp_f {post : Int32 → Prop} {x : Int32} (h : ¬ ok_4 a_open x) (hp : post (-1)) : wpX_savepoints post (f_group, f_present, f_freeVersion, f_freeCount, f_tracked, f_logLength, f_baseMask, f_commits, f_durable, a_newest, a_verValue, a_verThere, a_verStamp, a_verOlder, a_fenwick, a_open, a_serial, a_start, a_readMask, a_writeMask, a_dirty, a_writes, a_writeKey, a_writeValue, a_writeThere, a_writeBefore, a_lastWrite, a_saves, a_saveAt, a_trackNumber, a_trackRead, a_trackWrite, a_trackIn, a_trackOut, a_logKey, a_logValue, a_logThere, a_logStamp, a_baseValue) x := by
  unfold wpX_savepoints
  exact xw_idle_f h (br_f (by decide) hp)
theorem xw_c59 {post : Int32 → Prop} {s : Nat} (hs : s < 4) (hp : post (nI (cn_t (mb_b (a_writeMask s)) 64))) : wX_count_59 post (nI (s + 3)) f_group f_present f_freeVersion f_freeCount f_tracked f_logLength f_baseMask f_commits f_durable a_newest a_verValue a_verThere a_verStamp a_verOlder a_fenwick a_open a_serial a_start a_readMask a_writeMask a_dirty a_writes a_writeKey a_writeValue a_writeThere a_writeBefore a_lastWrite a_saves a_saveAt a_trackNumber a_trackRead a_trackWrite a_trackIn a_trackOut a_logKey a_logValue a_logThere a_logStamp a_baseValue := by
  unfold wX_count_59
  have e : nI (s + 3) - 3 = nI s := pk_sub (a := s + 3) (b := 3) (by omega)
  rw [e]
  refine ⟨vp_in_nI hs (by decide), ?_⟩
  rw [nI_clamp (by omega)]
  exact nm_e ⟨64, xw_cnt hp⟩
theorem xw_count_s {post : Int32 → Prop} {s : Nat} (hs : s < 4) (hp : post (nI (cn_t (mb_b (a_writeMask s)) 64))) : wpX_count post (f_group, f_present, f_freeVersion, f_freeCount, f_tracked, f_logLength, f_baseMask, f_commits, f_durable, a_newest, a_verValue, a_verThere, a_verStamp, a_verOlder, a_fenwick, a_open, a_serial, a_start, a_readMask, a_writeMask, a_dirty, a_writes, a_writeKey, a_writeValue, a_writeThere, a_writeBefore, a_lastWrite, a_saves, a_saveAt, a_trackNumber, a_trackRead, a_trackWrite, a_trackIn, a_trackOut, a_logKey, a_logValue, a_logThere, a_logStamp, a_baseValue) (nI (s + 3)) := by
  have h : wX_count_59 post (nI (s + 3)) f_group f_present f_freeVersion f_freeCount f_tracked f_logLength f_baseMask f_commits f_durable a_newest a_verValue a_verThere a_verStamp a_verOlder a_fenwick a_open a_serial a_start a_readMask a_writeMask a_dirty a_writes a_writeKey a_writeValue a_writeThere a_writeBefore a_lastWrite a_saves a_saveAt a_trackNumber a_trackRead a_trackWrite a_trackIn a_trackOut a_logKey a_logValue a_logThere a_logStamp a_baseValue := xw_c59 hs hp
  unfold wpX_count
  refine br_f (nI_pos (by omega)) (br_f (nI_nlt (a := 6) (by omega) (by decide)) (pk_eq (s + 3) 0 (fun z => absurd z (by omega)) (fun _ => pk_eq (s + 3) 1 (fun z => absurd z (by omega)) (fun _ => pk_eq (s + 3) 2 (fun z => absurd z (by omega)) (fun _ => br_c (fun _ => h) (fun c3 => br_c (fun _ => h) (fun c4 => br_c (fun _ => h) (fun c5 => br_c (fun _ => h) (fun _ => trivial)))))))))
end
/-- what is seen: the same from the versions and from the history -/
theorem rl_d {C H : Nat} {st hc hq : Nat → Nat} {cu : Nat → Option Int32} {V : Nat → Nat → Option Int32} {a_open : Nat → Int32} {a_dirty : Nat → Int64} {a_hValue a_hThere : Nat → Int32} (S2 : ∀ k, k < 64 → cu k = af_t hc hq a_hValue a_hThere C k H) (S4 : ∀ s, s < 4 → a_open s ≠ 0 → ∀ k, k < 64 → V (st s) k = af_t hc hq a_hValue a_hThere (st s) k H) (S5 : ∀ s, s < 4 → a_open s ≠ 0 → ∀ k, k < 64 → mb_b (a_dirty s) k = pb_p (wr_h hc hq H (st s) k)) (hC : ∀ i, i < H → hc i ≤ C) {s : Nat} (hs : s < 4) (ho : a_open s ≠ 0) (hst : st s ≤ C) : ∀ k, k < 64 → mb_b (a_dirty s) k = false → V (st s) k = cu k := by
  intro k hk hd
  rw [S5 s hs ho k hk, pb_j] at hd
  rw [S4 s hs ho k hk, S2 k hk]
  exact af_nw hC hd hst
theorem i_vc_row {k : Nat} {u : SX} {v : SY} (I : i_Rel k u v) (hk : k + 5 ≤ 2561) (v1 : Int32) : wpX_row (fun r => wpY_row (fun r' => r' = r ∧ i_Rel (k + 5) u v) v v1) u v1 := by
  have I5 := i_up I
  revert I5
  refine zz_el (P := fun u v => i_Rel (k + 5) u v → wpX_row (fun r => wpY_row (fun r' => r' = r ∧ i_Rel (k + 5) u v) v v1) u v1) I ?_
  intro f_group f_present f_freeVersion f_freeCount f_tracked f_logLength f_baseMask f_commits f_durable a_newest a_verValue a_verThere a_verStamp a_verOlder a_fenwick a_open a_serial a_start a_readMask a_writeMask a_dirty a_writes a_writeKey a_writeValue a_writeThere a_writeBefore a_lastWrite a_saves a_saveAt a_trackNumber a_trackRead a_trackWrite a_trackIn a_trackOut a_logKey a_logValue a_logThere a_logStamp a_baseValue f_history a_hCommit a_hKey a_hValue a_hThere a_cStart a_cRead a_cWrite a_known a_sCount y_saves F I5
  obtain ⟨G, C, D, T, H, st, K, N, SV, SA, hc, hq, cs, tn, t, cu, V, B, fc, n, q1, q2, q3, q4, q5, q6, q7⟩ := F
  obtain ⟨a1, a2, a3, a4, a5, a6, a7, a8, a9, a10⟩ := q1
  obtain ⟨S, S2, S3, S4, S5⟩ := q5
  by_cases c : ok_k v1
  · obtain ⟨j, hj, rfl⟩ := c
    exact xw_row_t S hj (yw_row_t q4.1 a4 (by omega) hj ⟨by rw [S2 j hj], I5⟩)
  · exact xw_row_f c (yw_row_f c ⟨rfl, I5⟩)
theorem i_vc_seen {k : Nat} {u : SX} {v : SY} (I : i_Rel k u v) (hk : k + 5 ≤ 2561) (v1 : Int32) (v2 : Int32) : wpX_seen (fun r => wpY_seen (fun r' => r' = r ∧ i_Rel (k + 5) u v) v v1 v2) u v1 v2 := by
  have I5 := i_up I
  revert I5
  refine zz_el (P := fun u v => i_Rel (k + 5) u v → wpX_seen (fun r => wpY_seen (fun r' => r' = r ∧ i_Rel (k + 5) u v) v v1 v2) u v1 v2) I ?_
  intro f_group f_present f_freeVersion f_freeCount f_tracked f_logLength f_baseMask f_commits f_durable a_newest a_verValue a_verThere a_verStamp a_verOlder a_fenwick a_open a_serial a_start a_readMask a_writeMask a_dirty a_writes a_writeKey a_writeValue a_writeThere a_writeBefore a_lastWrite a_saves a_saveAt a_trackNumber a_trackRead a_trackWrite a_trackIn a_trackOut a_logKey a_logValue a_logThere a_logStamp a_baseValue f_history a_hCommit a_hKey a_hValue a_hThere a_cStart a_cRead a_cWrite a_known a_sCount y_saves F I5
  obtain ⟨G, C, D, T, H, st, K, N, SV, SA, hc, hq, cs, tn, t, cu, V, B, fc, n, q1, q2, q3, q4, q5, q6, q7⟩ := F
  obtain ⟨a1, a2, a3, a4, a5, a6, a7, a8, a9, a10⟩ := q1
  obtain ⟨b1, b2, b3, b4, b5, b6, b7, b8, b9, b10, b11, b12, b13⟩ := q2
  obtain ⟨K1, K2, K3, W⟩ := q3
  obtain ⟨S, S2, S3, S4, S5⟩ := q5
  by_cases c : ok_4 a_open v1 ∧ ok_k v2
  · obtain ⟨⟨s, hs, rfl, ho⟩, j, hj, rfl⟩ := c
    have hd := rl_d S2 S4 S5 q4.2.1 hs ho (b5 s hs ho)
    refine xw_seen_t S W K3 hs ho (b3 s) (b4 s) hd hj (yw_seen_t q4.1 hs ho (W.2.1 s) hj (b4 s) (b3 s) (b7 s hs ho).1 K1 K2 ⟨?_, I5⟩)
    rw [S4 s hs ho j hj]
  · exact xw_seen_f c (yw_seen_f c ⟨rfl, I5⟩)
theorem i_vc_savepoints {k : Nat} {u : SX} {v : SY} (I : i_Rel k u v) (hk : k + 5 ≤ 2561) (v1 : Int32) : wpX_savepoints (fun r => wpY_savepoints (fun r' => r' = r ∧ i_Rel (k + 5) u v) v v1) u v1 := by
  have I5 := i_up I
  revert I5
  refine zz_el (P := fun u v => i_Rel (k + 5) u v → wpX_savepoints (fun r => wpY_savepoints (fun r' => r' = r ∧ i_Rel (k + 5) u v) v v1) u v1) I ?_
  intro f_group f_present f_freeVersion f_freeCount f_tracked f_logLength f_baseMask f_commits f_durable a_newest a_verValue a_verThere a_verStamp a_verOlder a_fenwick a_open a_serial a_start a_readMask a_writeMask a_dirty a_writes a_writeKey a_writeValue a_writeThere a_writeBefore a_lastWrite a_saves a_saveAt a_trackNumber a_trackRead a_trackWrite a_trackIn a_trackOut a_logKey a_logValue a_logThere a_logStamp a_baseValue f_history a_hCommit a_hKey a_hValue a_hThere a_cStart a_cRead a_cWrite a_known a_sCount y_saves F I5
  obtain ⟨G, C, D, T, H, st, K, N, SV, SA, hc, hq, cs, tn, t, cu, V, B, fc, n, q1, q2, q3, q4, q5, q6, q7⟩ := F
  obtain ⟨b1, b2, b3, b4, b5, b6, b7, b8, b9, b10, b11, b12, b13⟩ := q2
  by_cases c : ok_4 a_open v1
  · obtain ⟨s, hs, rfl, ho⟩ := c
    exact xw_sp_t hs ho (yw_sp_t hs ho ⟨by rw [(b7 s hs ho).2, b8 s], I5⟩)
  · exact xw_sp_f c (yw_sp_f c ⟨rfl, I5⟩)
theorem i_vc_count {k : Nat} {u : SX} {v : SY} (I : i_Rel k u v) (hk : k + 5 ≤ 2561) (v1 : Int32) : wpX_count (fun r => wpY_count (fun r' => r' = r ∧ i_Rel (k + 5) u v) v v1) u v1 := by
  have I5 := i_up I
  revert I5
  refine zz_el (P := fun u v => i_Rel (k + 5) u v → wpX_count (fun r => wpY_count (fun r' => r' = r ∧ i_Rel (k + 5) u v) v v1) u v1) I ?_
  intro f_group f_present f_freeVersion f_freeCount f_tracked f_logLength f_baseMask f_commits f_durable a_newest a_verValue a_verThere a_verStamp a_verOlder a_fenwick a_open a_serial a_start a_readMask a_writeMask a_dirty a_writes a_writeKey a_writeValue a_writeThere a_writeBefore a_lastWrite a_saves a_saveAt a_trackNumber a_trackRead a_trackWrite a_trackIn a_trackOut a_logKey a_logValue a_logThere a_logStamp a_baseValue f_history a_hCommit a_hKey a_hValue a_hThere a_cStart a_cRead a_cWrite a_known a_sCount y_saves F I5
  obtain ⟨G, C, D, T, H, st, K, N, SV, SA, hc, hq, cs, tn, t, cu, V, B, fc, n, q1, q2, q3, q4, q5, q6, q7⟩ := F
  obtain ⟨a1, a2, a3, a4, a5, a6, a7, a8, a9, a10⟩ := q1
  obtain ⟨b1, b2, b3, b4, b5, b6, b7, b8, b9, b10, b11, b12, b13⟩ := q2
  obtain ⟨K1, K2, K3, W⟩ := q3
  by_cases c0 : v1 < 0
  · have n0 : ¬ v1 = 0 := fun z => by rw [z] at c0; exact absurd c0 (by decide)
    have n1 : ¬ v1 = 1 := fun z => by rw [z] at c0; exact absurd c0 (by decide)
    have n2 : ¬ v1 = 2 := fun z => by rw [z] at c0; exact absurd c0 (by decide)
    have n3 : v1 < 3 := Int32.lt_trans c0 (by decide)
    unfold wpX_count
    refine br_t c0 ?_
    unfold wpY_count
    exact br_f n0 (br_f n1 (br_f n2 (br_t n3 ⟨rfl, I5⟩)))
  · obtain ⟨j, hj, rfl⟩ := nI_of c0
    by_cases c6 : 6 < j
    · unfold wpX_count
      refine br_f c0 (br_t (nI_lt (a := 6) c6 hj) ?_)
      unfold wpY_count
      exact pk_eq j 0 (fun z => absurd z (by omega)) (fun _ => pk_eq j 1 (fun z => absurd z (by omega)) (fun _ => pk_eq j 2 (fun z => absurd z (by omega)) (fun _ => pk_lt j 3 (fun z => absurd z (by omega)) (fun _ => pk_le j 6 (fun z => absurd z (by omega)) (fun _ => ⟨rfl, I5⟩)))))
    · by_cases c3 : 3 ≤ j
      · obtain ⟨s, rfl⟩ : ∃ s, j = s + 3 := ⟨j - 3, by omega⟩
        have hs : s < 4 := by omega
        refine xw_count_s hs (yw_count_s (K := K) hs (fun z => ⟨?_, I5⟩) (fun z => ⟨N s, W.2.1 s, (b7 s hs z).1, ?_, I5⟩) K1)
        · have e : a_writeMask s = 0 := by rw [W.2.2.2.2 s hs, (b6 s hs z).1]; rfl
          rw [e, cn_z 64 (fun j _ => mb_0 j)]; rfl
        · rw [W.2.2.2.2 s hs]
      · have cx : ¬ (6 : Int32) < nI j := nI_nlt (a := 6) (by omega) (by decide)
        unfold wpX_count
        refine br_f c0 (br_f cx (pk_eq j 0 (fun e => ?_) (fun e0 => pk_eq j 1 (fun e => ?_) (fun e1 => pk_eq j 2 (fun e => ?_) (fun z => absurd z (by omega))))))
        · unfold wpY_count
          exact pk_eq j 0 (fun _ => ⟨rfl, I5⟩) (fun z => absurd e z)
        · unfold wpY_count
          exact pk_eq j 0 (fun z => absurd z e0) (fun _ => pk_eq j 1 (fun _ => ⟨rfl, I5⟩) (fun z => absurd e z))
        · unfold wpY_count
          refine pk_eq j 0 (fun z => absurd z e0) (fun _ => pk_eq j 1 (fun z => absurd z e1) (fun _ => pk_eq j 2 (fun _ => ?_) (fun z => absurd e z)))
          have k0 : a_known 0 = 0 := by
            apply Decidable.byContradiction
            intro z
            have := (q6.2.2.2.2 0 z).1
            omega
          refine yw_tracked a4 (by omega) hb_m1 b3 b4 k0 ⟨?_, I5⟩
          rw [tk_cnt q6.1, q6.1.1]
end
section
/-! begin, read, save, undo -/
theorem rm_k {K : Nat → Nat} {s n k : Nat} (hK : ∀ j, K j < 64) (hk : k < 64) : (mb_t k &&& (ws_t K s n ^^^ (-1))) = nt_b K s n k := by
  apply mb_ext
  intro j hj
  rw [mb_and, mb_not hj, mb_tb hk, ws_b hK]
  unfold nt_b
  by_cases c : 0 < ow_n K s n k
  · rw [if_pos c, mb_0]
    by_cases d : j = k
    · rw [d, decide_eq_true c, Bool.not_true, Bool.and_false]
    · rw [decide_eq_false d, Bool.false_and]
  · rw [if_neg c, mb_tb hk]
    by_cases d : j = k
    · rw [d, decide_eq_false c, Bool.not_false, Bool.and_true]
    · rw [decide_eq_false d, Bool.false_and]
theorem bz_v (v : Int32) : vp_nar .boolean (lw_bz v) = lw_bz v := bl_nar (lw_bz_01 v)
section
variable {f_group : Int32} {f_present : Int64} {f_freeVersion : Int32} {f_freeCount : Int32} {f_tracked : Int32} {f_logLength : Int32} {f_baseMask : Int64} {f_commits : Int32} {f_durable : Int32} {a_newest : Nat → Int32} {a_verValue : Nat → Int32} {a_verThere : Nat → Int32} {a_verStamp : Nat → Int32} {a_verOlder : Nat → Int32} {a_fenwick : Nat → Int64} {a_open : Nat → Int32} {a_serial : Nat → Int32} {a_start : Nat → Int32} {a_readMask : Nat → Int64} {a_writeMask : Nat → Int64} {a_dirty : Nat → Int64} {a_writes : Nat → Int32} {a_writeKey : Nat → Int32} {a_writeValue : Nat → Int32} {a_writeThere : Nat → Int32} {a_writeBefore : Nat → Int32} {a_lastWrite : Nat → Int32} {a_saves : Nat → Int32} {a_saveAt : Nat → Int32} {a_trackNumber : Nat → Int32} {a_trackRead : Nat → Int64} {a_trackWrite : Nat → Int64} {a_trackIn : Nat → Int32} {a_trackOut : Nat → Int32} {a_logKey : Nat → Int32} {a_logValue : Nat → Int32} {a_logThere : Nat → Int32} {a_logStamp : Nat → Int32} {a_baseValue : Nat → Int32} {f_history : Int32} {a_hCommit : Nat → Int32} {a_hKey : Nat → Int32} {a_hValue : Nat → Int32} {a_hThere : Nat → Int32} {a_cStart : Nat → Int32} {a_cRead : Nat → Int64} {a_cWrite : Nat → Int64} {a_known : Nat → Int32} {a_sCount : Nat → Int32} {y_saves : Nat → Int32} {k : Nat}
theorem rl_begin {s : Nat} {x : Int32} (F : rl_f k f_group f_present f_freeVersion f_freeCount f_tracked f_logLength f_baseMask f_commits f_durable a_newest a_verValue a_verThere a_verStamp a_verOlder a_fenwick a_open a_serial a_start a_readMask a_writeMask a_dirty a_writes a_writeKey a_writeValue a_writeThere a_writeBefore a_lastWrite a_saves a_saveAt a_trackNumber a_trackRead a_trackWrite a_trackIn a_trackOut a_logKey a_logValue a_logThere a_logStamp a_baseValue f_history a_hCommit a_hKey a_hValue a_hThere a_cStart a_cRead a_cWrite a_known a_sCount y_saves) (hk : k + 5 ≤ 2561) (hs : s < 4) (ho : a_open s = 0) (hx : x = 0 ∨ x = 1) : rl_f (k + 5) f_group f_present f_freeVersion f_freeCount f_tracked f_logLength f_baseMask f_commits f_durable a_newest a_verValue a_verThere a_verStamp a_verOlder a_fenwick (upd a_open s 1) (upd a_serial s x) (upd a_start s f_commits) (vp_updL a_readMask s 0) a_writeMask (vp_updL a_dirty s 0) a_writes a_writeKey a_writeValue a_writeThere a_writeBefore a_lastWrite a_saves a_saveAt a_trackNumber a_trackRead a_trackWrite a_trackIn a_trackOut a_logKey a_logValue a_logThere a_logStamp a_baseValue f_history a_hCommit a_hKey a_hValue a_hThere a_cStart a_cRead a_cWrite a_known (upd a_sCount s 0) (upd y_saves s 0) := by
  obtain ⟨G, C, D, T, H, st, K, N, SV, SA, hc, hq, cs, tn, t, cu, V, B, fc, n, q1, q2, q3, q4, q5, q6, q7⟩ := F
  obtain ⟨a1, a2, a3, a4, a5, a6, a7, a8, a9, a10⟩ := q1
  obtain ⟨b1, b2, b3, b4, b5, b6, b7, b8, b9, b10, b11, b12, b13⟩ := q2
  obtain ⟨S, S2, S3, S4, S5⟩ := q5
  obtain ⟨T1, T2, T3, T4, T5⟩ := q6
  obtain ⟨N0, SV0⟩ := b6 s hs ho
  refine ⟨G, C, D, T, H, un_u st s C, K, N, SV, SA, hc, hq, cs, tn, t, cu, V, B, fc, n, ⟨a1, a2, a3, a4, a5, a6, a7, by omega, a9, a10⟩, ⟨bl_upd b1 (Or.inr rfl), bl_upd b2 hx, ?_, ?_, ?_, ?_, ?_, b8, b9, b10, b11, b12, b13⟩, q3, q4, ⟨S, S2, S3, ?_, ?_⟩, ⟨tk_p T1 ?_, T2, T3, T4, T5⟩, q7⟩
  · rw [a4]; exact un_upd b3 s C
  · intro r
    by_cases e : r = s
    · rw [e, un_s]; omega
    · rw [un_n e]; exact b4 r
  · intro r hr h
    by_cases e : r = s
    · rw [e, un_s]; exact Nat.le_refl _
    · rw [un_n e]; rw [pk_un e] at h; exact b5 r hr h
  · intro r hr h
    by_cases e : r = s
    · rw [e, pk_us] at h; exact absurd h (by decide)
    · rw [pk_un e] at h; exact b6 r hr h
  · intro r hr h
    by_cases e : r = s
    · rw [e, pk_us, pk_us, N0, SV0]; exact ⟨rfl, rfl⟩
    · rw [pk_un e] at h
      rw [pk_un e, pk_un e]; exact b7 r hr h
  · intro r hr h j hj
    by_cases e : r = s
    · rw [e, un_s, vs_top S hj (S3 j hj)]; exact S2 j hj
    · rw [un_n e]; rw [pk_un e] at h; exact S4 r hr h j hj
  · intro r hr h j hj
    by_cases e : r = s
    · rw [e, un_s, pk_uLs, mb_0, pb_f]
      rintro ⟨i, i1, i2, i3⟩
      have := q4.2.1 i i1
      omega
    · rw [un_n e, pk_uLn e]; rw [pk_un e] at h; exact S5 r hr h j hj
  · intro m hm
    have mC := (T5 m hm).2.1
    constructor
    · rintro ⟨r, r1, r2, r3, r4, r5⟩
      have e : r ≠ s := fun z => r3 (by rw [z]; exact ho)
      exact ⟨r, r1, r2, by rw [pk_un e]; exact r3, by rw [pk_un e]; exact r4, by rw [un_n e]; exact r5⟩
    · rintro ⟨r, r1, r2, r3, r4, r5⟩
      have e : r ≠ s := fun z => by rw [z, un_s] at r5; omega
      rw [pk_un e] at r3 r4
      rw [un_n e] at r5
      exact ⟨r, r1, r2, r3, r4, r5⟩
theorem rl_save {s N1 SV1 : Nat} (F : rl_f k f_group f_present f_freeVersion f_freeCount f_tracked f_logLength f_baseMask f_commits f_durable a_newest a_verValue a_verThere a_verStamp a_verOlder a_fenwick a_open a_serial a_start a_readMask a_writeMask a_dirty a_writes a_writeKey a_writeValue a_writeThere a_writeBefore a_lastWrite a_saves a_saveAt a_trackNumber a_trackRead a_trackWrite a_trackIn a_trackOut a_logKey a_logValue a_logThere a_logStamp a_baseValue f_history a_hCommit a_hKey a_hValue a_hThere a_cStart a_cRead a_cWrite a_known a_sCount y_saves) (hs : s < 4) (ho : a_open s ≠ 0) (hn : a_sCount s = nI N1) (hn1 : N1 ≤ 12) (hsv : a_saves s = nI SV1) (h3 : SV1 < 3) : rl_f (k + 5) f_group f_present f_freeVersion f_freeCount f_tracked f_logLength f_baseMask f_commits f_durable a_newest a_verValue a_verThere a_verStamp a_verOlder a_fenwick a_open a_serial a_start a_readMask a_writeMask a_dirty a_writes a_writeKey a_writeValue a_writeThere a_writeBefore a_lastWrite (upd a_saves s (nI (SV1 + 1))) (upd a_saveAt (3 * s + SV1) (nI N1)) a_trackNumber a_trackRead a_trackWrite a_trackIn a_trackOut a_logKey a_logValue a_logThere a_logStamp a_baseValue f_history a_hCommit a_hKey a_hValue a_hThere a_cStart a_cRead a_cWrite a_known a_sCount (upd y_saves s (nI (SV1 + 1))) := by
  obtain ⟨G, C, D, T, H, st, K, N, SV, SA, hc, hq, cs, tn, t, cu, V, B, fc, n, q1, q2, q3, q4, q5, q6, q7⟩ := F
  obtain ⟨a1, a2, a3, a4, a5, a6, a7, a8, a9, a10⟩ := q1
  obtain ⟨b1, b2, b3, b4, b5, b6, b7, b8, b9, b10, b11, b12, b13⟩ := q2
  have n12 := q3.2.2.2.2.1 s
  have sv3 := b9 s
  have eN : N1 = N s := nr_inj (hn.symm.trans (b7 s hs ho).1) (by omega) (by omega)
  have eS : SV1 = SV s := nr_inj (hsv.symm.trans (b8 s)) (by omega) (by omega)
  subst eN eS
  refine ⟨G, C, D, T, H, st, K, N, un_u SV s (SV s + 1), un_u SA (3 * s + SV s) (N s), hc, hq, cs, tn, t, cu, V, B, fc, n, ⟨a1, a2, a3, a4, a5, a6, a7, by omega, a9, a10⟩, ⟨b1, b2, b3, b4, b5, ?_, ?_, un_upd b8 _ _, ?_, un_upd b10 _ _, ?_, ?_, ?_⟩, q3, q4, q5, q6, q7⟩
  · intro r hr h
    have e : r ≠ s := fun z => ho (by rw [← z]; exact h)
    rw [un_n e]; exact b6 r hr h
  · intro r hr h
    by_cases e : r = s
    · rw [e, un_s, pk_us]; exact ⟨(b7 s hs ho).1, rfl⟩
    · rw [un_n e, pk_un e]; exact b7 r hr h
  · intro r
    by_cases e : r = s
    · rw [e, un_s]; omega
    · rw [un_n e]; exact b9 r
  · intro j
    by_cases e : j = 3 * s + SV s
    · rw [e, un_s]; exact hn1
    · rw [un_n e]; exact b11 j
  · intro r hr i hi
    by_cases e : r = s
    · subst e
      rw [un_s] at hi
      by_cases c : i = SV r
      · rw [c, un_s]; exact Nat.le_refl _
      · rw [un_n (by omega)]; exact b12 r hr i (by omega)
    · rw [un_n e] at hi
      have := b9 r
      rw [un_n (by omega)]; exact b12 r hr i hi
  · intro r hr i j hij hj
    by_cases e : r = s
    · subst e
      rw [un_s] at hj
      by_cases c : j = SV r
      · rw [c, un_s]
        by_cases d : i = SV r
        · rw [d, un_s]; exact Nat.le_refl _
        · rw [un_n (by omega)]; exact b12 r hr i (by omega)
      · rw [un_n (by omega), un_n (by omega)]; exact b13 r hr i j hij (by omega)
    · rw [un_n e] at hj
      have := b9 r
      rw [un_n (by omega), un_n (by omega)]; exact b13 r hr i j hij hj
end
theorem i_vc_begin {k : Nat} {u : SX} {v : SY} (I : i_Rel k u v) (hk : k + 5 ≤ 2561) (v1 : Int32) (v2 : Int32) : wpX_begin (fun r u' => wpY_begin (fun r' v' => r' = r ∧ i_Rel (k + 5) u' v') v v1 (lw_bz v2)) u v1 (lw_bz v2) := by
  refine zz_el (P := fun u v => wpX_begin (fun r u' => wpY_begin (fun r' v' => r' = r ∧ i_Rel (k + 5) u' v') v v1 (lw_bz v2)) u v1 (lw_bz v2)) I ?_
  intro f_group f_present f_freeVersion f_freeCount f_tracked f_logLength f_baseMask f_commits f_durable a_newest a_verValue a_verThere a_verStamp a_verOlder a_fenwick a_open a_serial a_start a_readMask a_writeMask a_dirty a_writes a_writeKey a_writeValue a_writeThere a_writeBefore a_lastWrite a_saves a_saveAt a_trackNumber a_trackRead a_trackWrite a_trackIn a_trackOut a_logKey a_logValue a_logThere a_logStamp a_baseValue f_history a_hCommit a_hKey a_hValue a_hThere a_cStart a_cRead a_cWrite a_known a_sCount y_saves F
  have I5 := zz_in (rl_up F)
  unfold wpX_begin
  rcases pk_ix v1 (n := 4) (by decide) with c | c | ⟨s, hs, rfl⟩
  · refine xw_bad_f (N := 4) (by decide) (fun ⟨j, hj, e⟩ => by rw [e] at c; exact absurd c (nI_pos (by omega))) (br_f (by decide) ?_)
    unfold wpY_begin
    exact br_t c ⟨rfl, I5⟩
  · refine xw_bad_f (N := 4) (by decide) (fun ⟨j, hj, e⟩ => by rw [e] at c; exact absurd c (nI_ge hj (by decide))) (br_f (by decide) ?_)
    unfold wpY_begin
    exact br_f (Int32.not_lt.mpr (Int32.le_trans (nI_pos' (n := 4) (by decide)) c)) (br_t (Int32.lt_of_lt_of_le (nI_lt (a := 3) (b := 4) (by decide) (by decide)) c) ⟨rfl, I5⟩)
  · have in4 : vp_in (nI s) 4 := vp_in_nI hs (by decide)
    refine xw_bad_t (N := 4) hs (by decide) (br_t rfl ⟨in4, ?_⟩)
    rw [nI_clamp (by omega)]
    refine br_c (fun ho => ⟨in4, nm_r (e' := upd a_open s 1) (by rw [bl_n1]) ⟨in4, nm_r (e' := upd a_serial s (lw_bz v2)) (by rw [bz_v]) ⟨in4, nm_e ⟨in4, nm_e ⟨in4, nm_e ?_⟩⟩⟩⟩⟩) (fun ho => ?_)
    · unfold wpY_begin
      refine br_f (nI_pos (by omega)) (br_f (nI_nlt (a := 3) (by omega) (by decide)) ⟨in4, ?_⟩)
      rw [nI_clamp (by omega)]
      refine br_t ho ⟨in4, nm_r (e' := upd a_open s 1) (by rw [bl_n1]) ⟨in4, nm_r (e' := upd a_serial s (lw_bz v2)) (by rw [bz_v]) ⟨in4, nm_e ⟨in4, nm_e ⟨in4, nm_e ⟨in4, nm_e ⟨rfl, ?_⟩⟩⟩⟩⟩⟩⟩
      exact zz_in (rl_begin F hk hs ho (lw_bz_01 v2))
    · unfold wpY_begin
      refine br_f (nI_pos (by omega)) (br_f (nI_nlt (a := 3) (by omega) (by decide)) ⟨in4, ?_⟩)
      rw [nI_clamp (by omega)]
      exact br_f ho ⟨rfl, I5⟩
theorem i_vc_read {k : Nat} {u : SX} {v : SY} (I : i_Rel k u v) (hk : k + 5 ≤ 2561) (v1 : Int32) (v2 : Int32) : wpX_read (fun r u' => wpY_read (fun r' v' => r' = r ∧ i_Rel (k + 5) u' v') v v1 v2) u v1 v2 := by
  refine zz_el (P := fun u v => wpX_read (fun r u' => wpY_read (fun r' v' => r' = r ∧ i_Rel (k + 5) u' v') v v1 v2) u v1 v2) I ?_
  intro f_group f_present f_freeVersion f_freeCount f_tracked f_logLength f_baseMask f_commits f_durable a_newest a_verValue a_verThere a_verStamp a_verOlder a_fenwick a_open a_serial a_start a_readMask a_writeMask a_dirty a_writes a_writeKey a_writeValue a_writeThere a_writeBefore a_lastWrite a_saves a_saveAt a_trackNumber a_trackRead a_trackWrite a_trackIn a_trackOut a_logKey a_logValue a_logThere a_logStamp a_baseValue f_history a_hCommit a_hKey a_hValue a_hThere a_cStart a_cRead a_cWrite a_known a_sCount y_saves F
  have I5 := zz_in (rl_up F)
  have F0 := F
  obtain ⟨G, C, D, T, H, st, K, N, SV, SA, hc, hq, cs, tn, t, cu, V, B, fc, n, q1, q2, q3, q4, q5, q6, q7⟩ := F
  obtain ⟨a1, a2, a3, a4, a5, a6, a7, a8, a9, a10⟩ := q1
  obtain ⟨b1, b2, b3, b4, b5, b6, b7, b8, b9, b10, b11, b12, b13⟩ := q2
  obtain ⟨K1, K2, K3, W⟩ := q3
  obtain ⟨S, S2, S3, S4, S5⟩ := q5
  unfold wpX_read
  by_cases c : ok_4 a_open v1
  · obtain ⟨s, hs, rfl, ho⟩ := c
    by_cases d : ok_k v2
    · obtain ⟨j, hj, rfl⟩ := d
      have hd := rl_d S2 S4 S5 q4.2.1 hs ho (b5 s hs ho)
      have em : (mb_t j &&& (a_writeMask s ^^^ (-1))) = nt_b K s (N s) j := by rw [W.2.2.2.2 s hs]; exact rm_k K2 hj
      have yy : ∀ r : Int64, en_c (sn_v K a_writeValue a_writeThere s (N s) j (V (st s) j)) = r → wpY_read (fun r' v' => r' = r ∧ i_Rel (k + 5) (f_group, f_present, f_freeVersion, f_freeCount, f_tracked, f_logLength, f_baseMask, f_commits, f_durable, a_newest, a_verValue, a_verThere, a_verStamp, a_verOlder, a_fenwick, a_open, a_serial, a_start, vp_updL a_readMask s (a_readMask s ||| nt_b K s (N s) j), a_writeMask, a_dirty, a_writes, a_writeKey, a_writeValue, a_writeThere, a_writeBefore, a_lastWrite, a_saves, a_saveAt, a_trackNumber, a_trackRead, a_trackWrite, a_trackIn, a_trackOut, a_logKey, a_logValue, a_logThere, a_logStamp, a_baseValue) v') (f_group, f_commits, f_durable, f_history, a_hCommit, a_hKey, a_hValue, a_hThere, a_cStart, a_cRead, a_cWrite, a_known, a_open, a_serial, a_start, a_readMask, a_sCount, y_saves, a_writeKey, a_writeValue, a_writeThere, a_saveAt) (nI s) (nI j) := by
        intro r hr
        unfold wpY_read
        refine yw_isOpen_t hs ho (br_f (by decide) (yw_isKey_t hj (br_f (by decide) (yw_note hs (W.2.1 s) hj (b7 s hs ho).1 K1 K2 (yw_sees q4.1 hs (W.2.1 s) hj (b4 s) (b3 s) (b7 s hs ho).1 K1 K2 ⟨?_, zz_in (rl_up F0)⟩)))))
        rw [← S4 s hs ho j hj]; exact hr
      refine xw_idle_t hs ho (br_t rfl (xw_key_t hj (br_t rfl (xw_bit (xw_noteRead hs ?_)))))
      rw [em]
      refine xw_sees S W K3 hs (b3 s) (b4 s) hd hj ?_
      cases hv : sn_v K a_writeValue a_writeThere s (N s) j (V (st s) j) with
      | none => exact br_t rfl (yy _ (by rw [hv]; rfl))
      | some x => exact br_f (show ¬ bl_i true = 0 by decide) (xw_valueSeen S W hs (b3 s) (b4 s) hd hj hv (yy _ (by rw [hv]; rfl)))
    · refine xw_idle_t hs ho (br_t rfl (xw_key_f d (br_f (by decide) ?_)))
      unfold wpY_read
      exact yw_isOpen_t hs ho (br_f (by decide) (yw_isKey_f d (br_t rfl ⟨rfl, I5⟩)))
  · refine xw_idle_f c (br_f (by decide) ?_)
    unfold wpY_read
    exact yw_isOpen_f c (br_t rfl ⟨rfl, I5⟩)
theorem i_vc_save {k : Nat} {u : SX} {v : SY} (I : i_Rel k u v) (hk : k + 5 ≤ 2561) (v1 : Int32) : wpX_save (fun r u' => wpY_save (fun r' v' => r' = r ∧ i_Rel (k + 5) u' v') v v1) u v1 := by
  refine zz_el (P := fun u v => wpX_save (fun r u' => wpY_save (fun r' v' => r' = r ∧ i_Rel (k + 5) u' v') v v1) u v1) I ?_
  intro f_group f_present f_freeVersion f_freeCount f_tracked f_logLength f_baseMask f_commits f_durable a_newest a_verValue a_verThere a_verStamp a_verOlder a_fenwick a_open a_serial a_start a_readMask a_writeMask a_dirty a_writes a_writeKey a_writeValue a_writeThere a_writeBefore a_lastWrite a_saves a_saveAt a_trackNumber a_trackRead a_trackWrite a_trackIn a_trackOut a_logKey a_logValue a_logThere a_logStamp a_baseValue f_history a_hCommit a_hKey a_hValue a_hThere a_cStart a_cRead a_cWrite a_known a_sCount y_saves F
  have I5 := zz_in (rl_up F)
  have F0 := F
  obtain ⟨G, C, D, T, H, st, K, N, SV, SA, hc, hq, cs, tn, t, cu, V, B, fc, n, q1, q2, q3, q4, q5, q6, q7⟩ := F
  obtain ⟨b1, b2, b3, b4, b5, b6, b7, b8, b9, b10, b11, b12, b13⟩ := q2
  obtain ⟨K1, K2, K3, W⟩ := q3
  unfold wpX_save
  by_cases c : ok_4 a_open v1
  · obtain ⟨s, hs, rfl, ho⟩ := c
    have in4 : vp_in (nI s) 4 := vp_in_nI hs (by decide)
    have n12 := W.2.1 s
    have sv3 := b9 s
    obtain ⟨y1, y2⟩ := b7 s hs ho
    refine xw_idle_t hs ho (br_t rfl ⟨in4, ?_⟩)
    rw [nI_clamp (by omega), b8 s]
    refine pk_eq (SV s) 3 (fun e => ?_) (fun e => ⟨in4, in4, nm_r (e' := upd a_saves s (nI (SV s + 1))) (by rw [nI_1]; rw [nr_bb (by omega)]) ⟨in4, ?_⟩⟩)
    · unfold wpY_save
      refine yw_isOpen_t hs ho (br_f (by decide) ⟨in4, ?_⟩)
      rw [nI_clamp (by omega), y2]
      exact pk_eq (SV s) 3 (fun _ => ⟨rfl, I5⟩) (fun z => absurd e z)
    · rw [ix_3', nI_clamp (by omega), W.1 s]
      refine ⟨vp_in_nI (by omega) (by decide), nm_r (e' := upd a_saveAt (3 * s + SV s) (nI (N s))) (by rw [nr_b (by omega)]) ?_⟩
      unfold wpY_save
      refine yw_isOpen_t hs ho (br_f (by decide) ⟨in4, ?_⟩)
      rw [nI_clamp (by omega), y2]
      refine pk_eq (SV s) 3 (fun z => absurd z e) (fun _ => ⟨in4, in4, ?_⟩)
      rw [ix_3, nI_clamp (by omega), y1]
      refine ⟨vp_in_nI (by omega) (by decide), nm_e ⟨in4, in4, nm_r (e' := upd y_saves s (nI (SV s + 1))) (by rw [nI_1]) ⟨rfl, ?_⟩⟩⟩
      exact zz_in (rl_save F0 hs ho y1 n12 (b8 s) (by omega))
  · refine xw_idle_f c (br_f (by decide) ?_)
    unfold wpY_save
    exact yw_isOpen_f c (br_t rfl ⟨rfl, I5⟩)
end
section
/-! the end of a transaction; undo, rollback, write -/
theorem sm_4 {N M : Nat → Nat} (h : ∀ s, M s ≤ N s) : M 0 + M 1 + M 2 + M 3 ≤ N 0 + N 1 + N 2 + N 3 := by
  have := h 0; have := h 1; have := h 2; have := h 3; omega
theorem un_le {N : Nat → Nat} {s x : Nat} (h : x ≤ N s) : ∀ r, un_u N s x r ≤ N r := by
  intro r
  by_cases e : r = s
  · rw [e, un_s]; exact h
  · rw [un_n e]; exact Nat.le_refl _
theorem sm_p {N : Nat → Nat} {s x : Nat} (hs : s < 4) : un_u N s (N s + x) 0 + un_u N s (N s + x) 1 + un_u N s (N s + x) 2 + un_u N s (N s + x) 3 = N 0 + N 1 + N 2 + N 3 + x := by
  have : s = 0 ∨ s = 1 ∨ s = 2 ∨ s = 3 := by omega
  rcases this with e | e | e | e <;> subst e
  · rw [un_s, un_n (by decide), un_n (by decide), un_n (by decide)]; omega
  · rw [un_s, un_n (by decide), un_n (by decide), un_n (by decide)]; omega
  · rw [un_s, un_n (by decide), un_n (by decide), un_n (by decide)]; omega
  · rw [un_s, un_n (by decide), un_n (by decide), un_n (by decide)]; omega
section
variable {f_group : Int32} {f_present : Int64} {f_freeVersion : Int32} {f_freeCount : Int32} {f_tracked : Int32} {f_logLength : Int32} {f_baseMask : Int64} {f_commits : Int32} {f_durable : Int32} {a_newest : Nat → Int32} {a_verValue : Nat → Int32} {a_verThere : Nat → Int32} {a_verStamp : Nat → Int32} {a_verOlder : Nat → Int32} {a_fenwick : Nat → Int64} {a_open : Nat → Int32} {a_serial : Nat → Int32} {a_start : Nat → Int32} {a_readMask : Nat → Int64} {a_writeMask : Nat → Int64} {a_dirty : Nat → Int64} {a_writes : Nat → Int32} {a_writeKey : Nat → Int32} {a_writeValue : Nat → Int32} {a_writeThere : Nat → Int32} {a_writeBefore : Nat → Int32} {a_lastWrite : Nat → Int32} {a_saves : Nat → Int32} {a_saveAt : Nat → Int32} {a_trackNumber : Nat → Int32} {a_trackRead : Nat → Int64} {a_trackWrite : Nat → Int64} {a_trackIn : Nat → Int32} {a_trackOut : Nat → Int32} {a_logKey : Nat → Int32} {a_logValue : Nat → Int32} {a_logThere : Nat → Int32} {a_logStamp : Nat → Int32} {a_baseValue : Nat → Int32} {f_history : Int32} {a_hCommit : Nat → Int32} {a_hKey : Nat → Int32} {a_hValue : Nat → Int32} {a_hThere : Nat → Int32} {a_cStart : Nat → Int32} {a_cRead : Nat → Int64} {a_cWrite : Nat → Int64} {a_known : Nat → Int32} {a_sCount : Nat → Int32} {y_saves : Nat → Int32} {k : Nat}
theorem rl_end {G C D T H : Nat} {st K N SV SA hc hq cs : Nat → Nat} {cu : Nat → Option Int32} {V : Nat → Nat → Option Int32} {B : Nat → Nat} {fc n s : Nat} {w' l' : Nat → Int32} {m' : Nat → Int64} {ft' : Int32} {tN' : Nat → Int32} {tR' tW' : Nat → Int64} {tI' tO' : Nat → Int32} {t' : Nat} {tn' : Nat → Nat} (q1 : qa_n k G C D T H (un_u N s 0) f_group f_commits f_durable) (q2 : qb_s C st N SV SA a_open a_serial a_start a_saves a_saveAt a_sCount y_saves) (K1 : ∀ j, a_writeKey j = nI (K j)) (K2 : ∀ j, K j < 64) (K3 : bl_ok a_writeThere) (q4 : qd_h C H hc hq f_history a_hCommit a_hKey) (q5 : qe_v C H st hc hq cu V B fc f_present f_freeVersion f_freeCount a_newest a_verValue a_verThere a_verStamp a_verOlder a_fenwick a_open a_dirty a_hValue a_hThere) (q7 : qg_l C D H n hc hq f_logLength f_baseMask a_logKey a_logValue a_logThere a_logStamp a_baseValue a_hValue a_hThere) (T3 : ∀ j, a_cStart j = nI (cs j)) (T4 : ∀ j, cs j < 2 ^ 31) (T5 : ∀ m, a_known m ≠ 0 → 1 ≤ m ∧ m ≤ C ∧ cs m < m) (hs : s < 4) (W' : wi_v K (un_u N s 0) w' a_writeBefore l' m') (T' : tk_i a_known cs a_cRead a_cWrite C (li_v (upd a_open s 0) a_serial st 4) ft' tN' tR' tW' tI' tO' t' tn') (ht' : t' ≤ 8) : rl_f k f_group f_present f_freeVersion f_freeCount ft' f_logLength f_baseMask f_commits f_durable a_newest a_verValue a_verThere a_verStamp a_verOlder a_fenwick (upd a_open s 0) a_serial a_start a_readMask m' a_dirty w' a_writeKey a_writeValue a_writeThere a_writeBefore l' (upd a_saves s 0) a_saveAt tN' tR' tW' tI' tO' a_logKey a_logValue a_logThere a_logStamp a_baseValue f_history a_hCommit a_hKey a_hValue a_hThere a_cStart a_cRead a_cWrite a_known a_sCount y_saves := by
  obtain ⟨b1, b2, b3, b4, b5, b6, b7, b8, b9, b10, b11, b12, b13⟩ := q2
  obtain ⟨S, S2, S3, S4, S5⟩ := q5
  have op : ∀ r, upd a_open s 0 r ≠ 0 → r ≠ s ∧ a_open r ≠ 0 := by
    intro r h
    have e : r ≠ s := fun z => by rw [z, pk_us] at h; exact h rfl
    rw [pk_un e] at h
    exact ⟨e, h⟩
  refine ⟨G, C, D, T, H, st, K, un_u N s 0, un_u SV s 0, SA, hc, hq, cs, tn', t', cu, V, B, fc, n, q1, ⟨bl_upd b1 (Or.inl rfl), b2, b3, b4, ?_, ?_, ?_, un_upd b8 s 0, ?_, b10, b11, ?_, ?_⟩, ⟨K1, K2, K3, W'⟩, q4, ⟨S, S2, S3, ?_, ?_⟩, ⟨T', ht', T3, T4, T5⟩, q7⟩
  · intro r hr h; exact b5 r hr (op r h).2
  · intro r hr h
    by_cases e : r = s
    · rw [e, un_s, un_s]; exact ⟨rfl, rfl⟩
    · rw [un_n e, un_n e]; rw [pk_un e] at h; exact b6 r hr h
  · intro r hr h
    obtain ⟨e, h2⟩ := op r h
    rw [un_n e, un_n e]; exact b7 r hr h2
  · intro r
    by_cases e : r = s
    · rw [e, un_s]; omega
    · rw [un_n e]; exact b9 r
  · intro r hr i hi
    by_cases e : r = s
    · rw [e, un_s] at hi; exact absurd hi (by omega)
    · rw [un_n e] at hi ⊢; exact b12 r hr i hi
  · intro r hr i j hij hj
    by_cases e : r = s
    · rw [e, un_s] at hj; exact absurd hj (by omega)
    · rw [un_n e] at hj; exact b13 r hr i j hij hj
  · intro r hr h; exact S4 r hr (op r h).2
  · intro r hr h; exact S5 r hr (op r h).2
/-- a transaction that runs ends in the component, its session is closed in the reference -/
theorem xr_end {post : SX → Prop} {s : Nat} (F : rl_f k f_group f_present f_freeVersion f_freeCount f_tracked f_logLength f_baseMask f_commits f_durable a_newest a_verValue a_verThere a_verStamp a_verOlder a_fenwick a_open a_serial a_start a_readMask a_writeMask a_dirty a_writes a_writeKey a_writeValue a_writeThere a_writeBefore a_lastWrite a_saves a_saveAt a_trackNumber a_trackRead a_trackWrite a_trackIn a_trackOut a_logKey a_logValue a_logThere a_logStamp a_baseValue f_history a_hCommit a_hKey a_hValue a_hThere a_cStart a_cRead a_cWrite a_known a_sCount y_saves) (hk : k + 5 ≤ 2561) (hs : s < 4) (hp : ∀ w' l' m' ft' tN' tR' tW' tI' tO', rl_f k f_group f_present f_freeVersion f_freeCount ft' f_logLength f_baseMask f_commits f_durable a_newest a_verValue a_verThere a_verStamp a_verOlder a_fenwick (upd a_open s 0) a_serial a_start a_readMask m' a_dirty w' a_writeKey a_writeValue a_writeThere a_writeBefore l' (upd a_saves s 0) a_saveAt tN' tR' tW' tI' tO' a_logKey a_logValue a_logThere a_logStamp a_baseValue f_history a_hCommit a_hKey a_hValue a_hThere a_cStart a_cRead a_cWrite a_known a_sCount y_saves → post (f_group, f_present, f_freeVersion, f_freeCount, ft', f_logLength, f_baseMask, f_commits, f_durable, a_newest, a_verValue, a_verThere, a_verStamp, a_verOlder, a_fenwick, upd a_open s 0, a_serial, a_start, a_readMask, m', a_dirty, w', a_writeKey, a_writeValue, a_writeThere, a_writeBefore, l', upd a_saves s 0, a_saveAt, tN', tR', tW', tI', tO', a_logKey, a_logValue, a_logThere, a_logStamp, a_baseValue)) : wpX_end post (f_group, f_present, f_freeVersion, f_freeCount, f_tracked, f_logLength, f_baseMask, f_commits, f_durable, a_newest, a_verValue, a_verThere, a_verStamp, a_verOlder, a_fenwick, a_open, a_serial, a_start, a_readMask, a_writeMask, a_dirty, a_writes, a_writeKey, a_writeValue, a_writeThere, a_writeBefore, a_lastWrite, a_saves, a_saveAt, a_trackNumber, a_trackRead, a_trackWrite, a_trackIn, a_trackOut, a_logKey, a_logValue, a_logThere, a_logStamp, a_baseValue) (nI s) := by
  obtain ⟨G, C, D, T, H, st, K, N, SV, SA, hc, hq, cs, tn, t, cu, V, B, fc, n, q1, q2, q3, q4, q5, q6, q7⟩ := F
  have q2' := q2
  obtain ⟨a1, a2, a3, a4, a5, a6, a7, a8, a9, a10⟩ := q1
  obtain ⟨b1, b2, b3, b4, b5, b6, b7, b8, b9, b10, b11, b12, b13⟩ := q2
  obtain ⟨K1, K2, K3, W⟩ := q3
  obtain ⟨T1, T2, T3, T4, T5⟩ := q6
  refine xw_end hs K1 K2 W T1 (by omega) (by omega) a4 b3 b4 b1 b2 (fun m hm => (T5 m hm).2.1) (fun w' l' m' ft' tN' tR' tW' tI' tO' t' tn' W' T' => hp w' l' m' ft' tN' tR' tW' tI' tO' ?_)
  have sub : ∀ m, li_v (upd a_open s 0) a_serial st 4 m → li_v a_open a_serial st 4 m := by
    rintro m ⟨r, r1, r2, r3, r4, r5⟩
    have e : r ≠ s := fun z => by rw [z, pk_us] at r3; exact r3 rfl
    rw [pk_un e] at r3
    exact ⟨r, r1, r2, r3, r4, r5⟩
  have T'' := tk_p (Q := li_v (upd a_open s 0) a_serial st 4) T' (fun m _ => ⟨fun z => z.2, fun z => ⟨sub m z, z⟩⟩)
  refine rl_end (N := N) ⟨a1, a2, a3, a4, a5, a6, a7, a8, a9, by have := sm_4 (un_le (N := N) (s := s) (Nat.zero_le _)); omega⟩ q2' K1 K2 K3 q4 q5 q7 T3 T4 T5 hs W' T'' ?_
  have c1 := tk_cnt T1
  have c2 := tk_cnt T''
  have c3 := cn_m (p := fun j => pb_p (a_known j ≠ 0 ∧ li_v (upd a_open s 0) a_serial st 4 j)) (q := fun j => pb_p (a_known j ≠ 0 ∧ li_v a_open a_serial st 4 j)) (C + 1) (fun j _ h => by
    rw [pb_i] at h
    exact pb_t ⟨h.1, sub j h.2⟩)
  omega
theorem rl_undo {G C D T H : Nat} {st K N SV SA hc hq cs tn : Nat → Nat} {t : Nat} {cu : Nat → Option Int32} {V : Nat → Nat → Option Int32} {B : Nat → Nat} {fc n s q : Nat} {w' l' : Nat → Int32} {m' : Nat → Int64} (q1 : qa_n k G C D T H N f_group f_commits f_durable) (q2 : qb_s C st N SV SA a_open a_serial a_start a_saves a_saveAt a_sCount y_saves) (K1 : ∀ j, a_writeKey j = nI (K j)) (K2 : ∀ j, K j < 64) (K3 : bl_ok a_writeThere) (q4 : qd_h C H hc hq f_history a_hCommit a_hKey) (q5 : qe_v C H st hc hq cu V B fc f_present f_freeVersion f_freeCount a_newest a_verValue a_verThere a_verStamp a_verOlder a_fenwick a_open a_dirty a_hValue a_hThere) (q6 : qf_t C t st cs tn f_tracked a_open a_serial a_trackNumber a_trackRead a_trackWrite a_trackIn a_trackOut a_cStart a_cRead a_cWrite a_known) (q7 : qg_l C D H n hc hq f_logLength f_baseMask a_logKey a_logValue a_logThere a_logStamp a_baseValue a_hValue a_hThere) (hs : s < 4) (ho : a_open s ≠ 0) (hq1 : SV s = q + 1) (W' : wi_v K (un_u N s (SA (3 * s + q))) w' a_writeBefore l' m') : rl_f (k + 5) f_group f_present f_freeVersion f_freeCount f_tracked f_logLength f_baseMask f_commits f_durable a_newest a_verValue a_verThere a_verStamp a_verOlder a_fenwick a_open a_serial a_start a_readMask m' a_dirty w' a_writeKey a_writeValue a_writeThere a_writeBefore l' (upd a_saves s (nI q)) a_saveAt a_trackNumber a_trackRead a_trackWrite a_trackIn a_trackOut a_logKey a_logValue a_logThere a_logStamp a_baseValue f_history a_hCommit a_hKey a_hValue a_hThere a_cStart a_cRead a_cWrite a_known (upd a_sCount s (nI (SA (3 * s + q)))) (upd y_saves s (nI q)) := by
  obtain ⟨a1, a2, a3, a4, a5, a6, a7, a8, a9, a10⟩ := q1
  obtain ⟨b1, b2, b3, b4, b5, b6, b7, b8, b9, b10, b11, b12, b13⟩ := q2
  have le := b12 s hs q (by omega)
  have nle : ∀ r, un_u N s (SA (3 * s + q)) r ≤ N r := un_le le
  refine ⟨G, C, D, T, H, st, K, un_u N s (SA (3 * s + q)), un_u SV s q, SA, hc, hq, cs, tn, t, cu, V, B, fc, n, ⟨a1, a2, a3, a4, a5, a6, a7, by omega, a9, ?_⟩, ⟨b1, b2, b3, b4, b5, ?_, ?_, un_upd b8 s q, ?_, b10, b11, ?_, ?_⟩, ⟨K1, K2, K3, W'⟩, q4, q5, q6, q7⟩
  · have := sm_4 nle
    omega
  · intro r hr h
    have e : r ≠ s := fun z => ho (by rw [← z]; exact h)
    rw [un_n e, un_n e]; exact b6 r hr h
  · intro r hr h
    by_cases e : r = s
    · rw [e, un_s, un_s, pk_us, pk_us]; exact ⟨rfl, rfl⟩
    · rw [un_n e, un_n e, pk_un e, pk_un e]; exact b7 r hr h
  · intro r
    by_cases e : r = s
    · rw [e, un_s]; have := b9 s; omega
    · rw [un_n e]; exact b9 r
  · intro r hr i hi
    by_cases e : r = s
    · subst e
      rw [un_s] at hi ⊢
      exact b13 r hr i q (by omega) (by omega)
    · rw [un_n e] at hi ⊢; exact b12 r hr i hi
  · intro r hr i j hij hj
    by_cases e : r = s
    · subst e
      rw [un_s] at hj
      exact b13 r hr i j hij (by omega)
    · rw [un_n e] at hj; exact b13 r hr i j hij hj
theorem rl_write {G C D T H : Nat} {st K N SV SA hc hq cs tn : Nat → Nat} {t : Nat} {cu : Nat → Option Int32} {V : Nat → Nat → Option Int32} {B : Nat → Nat} {fc n s j : Nat} {th : Int32} (q1 : qa_n k G C D T H N f_group f_commits f_durable) (q2 : qb_s C st N SV SA a_open a_serial a_start a_saves a_saveAt a_sCount y_saves) (q3 : qc_k K N a_writes a_writeKey a_writeThere a_writeBefore a_lastWrite a_writeMask) (q4 : qd_h C H hc hq f_history a_hCommit a_hKey) (q5 : qe_v C H st hc hq cu V B fc f_present f_freeVersion f_freeCount a_newest a_verValue a_verThere a_verStamp a_verOlder a_fenwick a_open a_dirty a_hValue a_hThere) (q6 : qf_t C t st cs tn f_tracked a_open a_serial a_trackNumber a_trackRead a_trackWrite a_trackIn a_trackOut a_cStart a_cRead a_cWrite a_known) (q7 : qg_l C D H n hc hq f_logLength f_baseMask a_logKey a_logValue a_logThere a_logStamp a_baseValue a_hValue a_hThere) (hs : s < 4) (ho : a_open s ≠ 0) (hj : j < 64) (hn : N s < 12) (hth : th = 0 ∨ th = 1) (wv : Nat → Int32) : rl_f (k + 5) f_group f_present f_freeVersion f_freeCount f_tracked f_logLength f_baseMask f_commits f_durable a_newest a_verValue a_verThere a_verStamp a_verOlder a_fenwick a_open a_serial a_start a_readMask (vp_updL a_writeMask s (a_writeMask s ||| mb_t j)) a_dirty (upd a_writes s (nI (N s + 1))) (upd a_writeKey (12 * s + N s) (nI j)) wv (upd a_writeThere (12 * s + N s) th) (upd a_writeBefore (12 * s + N s) (nI (ow_n K s (N s) j))) (upd a_lastWrite (64 * s + j) (nI (12 * s + N s + 1))) a_saves a_saveAt a_trackNumber a_trackRead a_trackWrite a_trackIn a_trackOut a_logKey a_logValue a_logThere a_logStamp a_baseValue f_history a_hCommit a_hKey a_hValue a_hThere a_cStart a_cRead a_cWrite a_known (upd a_sCount s (nI (N s + 1))) y_saves := by
  obtain ⟨a1, a2, a3, a4, a5, a6, a7, a8, a9, a10⟩ := q1
  obtain ⟨b1, b2, b3, b4, b5, b6, b7, b8, b9, b10, b11, b12, b13⟩ := q2
  obtain ⟨K1, K2, K3, W⟩ := q3
  refine ⟨G, C, D, T + 1, H, st, un_u K (12 * s + N s) j, un_u N s (N s + 1), SV, SA, hc, hq, cs, tn, t, cu, V, B, fc, n, ⟨a1, a2, a3, a4, a5, a6, a7, by omega, by omega, ?_⟩, ⟨b1, b2, b3, b4, b5, ?_, ?_, b8, b9, b10, b11, ?_, b13⟩, ⟨un_upd K1 _ _, ?_, bl_upd K3 hth, wi_put W hs hj hn⟩, q4, q5, q6, q7⟩
  · have := sm_p (N := N) (x := 1) hs
    omega
  · intro r hr h
    have e : r ≠ s := fun z => ho (by rw [← z]; exact h)
    rw [un_n e]; exact b6 r hr h
  · intro r hr h
    by_cases e : r = s
    · rw [e, un_s, pk_us]; exact ⟨rfl, (b7 s hs ho).2⟩
    · rw [un_n e, pk_un e]; exact b7 r hr h
  · intro r hr i hi
    have := b12 r hr i hi
    by_cases e : r = s
    · subst e; rw [un_s]; omega
    · rw [un_n e]; exact this
  · intro i
    by_cases e : i = 12 * s + N s
    · rw [e, un_s]; exact hj
    · rw [un_n e]; exact K2 i
end
section
variable {f_limit : Int32} {f_commits : Int32} {f_durable : Int32} {f_history : Int32} {a_hCommit : Nat → Int32} {a_hKey : Nat → Int32} {a_hValue : Nat → Int32} {a_hThere : Nat → Int32} {a_cStart : Nat → Int32} {a_cRead : Nat → Int64} {a_cWrite : Nat → Int64} {a_known : Nat → Int32} {a_open : Nat → Int32} {a_strict : Nat → Int32} {a_start : Nat → Int32} {a_readSet : Nat → Int64} {a_sCount : Nat → Int32} {a_saves : Nat → Int32} {a_sKey : Nat → Int32} {a_sValue : Nat → Int32} {a_sThere : Nat → Int32} {a_saved : Nat → Int32}
theorem yw_w64 {post : Int32 → SY → Prop} {hc hq : Nat → Nat} {H m s n j : Nat} {val th : Int32} (R : hy_r f_history a_hCommit a_hKey hc hq H) (hs : s < 4) (hm : m < 2 ^ 31) (hst : a_start s = nI m) (hj : j < 64) (hn : n ≤ 12) (hcn : a_sCount s = nI n) (hth : th = 0 ∨ th = 1) (hp2 : wr_h hc hq H m j → post 2 (f_limit, f_commits, f_durable, f_history, a_hCommit, a_hKey, a_hValue, a_hThere, a_cStart, a_cRead, a_cWrite, a_known, upd a_open s 0, a_strict, a_start, a_readSet, a_sCount, a_saves, a_sKey, a_sValue, a_sThere, a_saved)) (hp4 : ¬ wr_h hc hq H m j → n = 12 → post 4 (f_limit, f_commits, f_durable, f_history, a_hCommit, a_hKey, a_hValue, a_hThere, a_cStart, a_cRead, a_cWrite, a_known, a_open, a_strict, a_start, a_readSet, a_sCount, a_saves, a_sKey, a_sValue, a_sThere, a_saved)) (hp0 : ¬ wr_h hc hq H m j → n < 12 → post 0 (f_limit, f_commits, f_durable, f_history, a_hCommit, a_hKey, a_hValue, a_hThere, a_cStart, a_cRead, a_cWrite, a_known, a_open, a_strict, a_start, a_readSet, upd a_sCount s (nI (n + 1)), a_saves, upd a_sKey (12 * s + n) (nI j), upd a_sValue (12 * s + n) val, upd a_sThere (12 * s + n) th, a_saved)) : ∀ d i f, i + d = H → d < f → (∀ i', i' < i → ¬ (m < hc i' ∧ hq i' = j)) → wY_write_64 post (nI s) (nI j) val th f_limit f_commits f_durable f_history a_hCommit a_hKey a_hValue a_hThere a_cStart a_cRead a_cWrite a_known a_open a_strict a_start a_readSet a_sCount a_saves a_sKey a_sValue a_sThere a_saved f (nI i) := by
  have in4 : vp_in (nI s) 4 := vp_in_nI hs (by decide)
  obtain ⟨rfl, hH, hR⟩ := R
  intro d
  induction d with
  | zero =>
    intro i f hi hf hl
    obtain ⟨f, rfl⟩ : ∃ q, f = q + 1 := ⟨f - 1, by omega⟩
    obtain rfl : i = H := by omega
    have nw : ¬ wr_h hc hq i m j := fun ⟨i', a, b⟩ => hl i' a b
    refine br_t (nI_le (Nat.le_refl _) (by omega)) ⟨in4, ?_⟩
    rw [nI_clamp (by omega), hcn]
    refine pk_eq n 12 (fun e => hp4 nw e) (fun e => ⟨in4, nm_r (e' := nI (12 * s + n)) (ix_12 s n) ?_⟩)
    have in48 : vp_in (nI (12 * s + n)) 48 := vp_in_nI (by omega) (by decide)
    exact ⟨in48, nm_r (wr_i (by omega) rfl) ⟨in48, nm_r (wr_i (by omega) rfl) ⟨in48, nm_r (wr_i (by omega) (bl_nar hth)) ⟨in4, in4, nm_r (e' := upd a_sCount s (nI (n + 1))) (by rw [nI_1]) (hp0 nw (by omega))⟩⟩⟩⟩
  | succ d ih =>
    intro i f hi hf hl
    obtain ⟨f, rfl⟩ : ∃ q, f = q + 1 := ⟨f - 1, by omega⟩
    obtain ⟨c1, c2, c3, c4⟩ := hR i
    have in5 : vp_in (nI i) 520 := vp_in_nI (by omega) (by decide)
    have r1 : a_hCommit (nI i).toNatClampNeg = nI (hc i) := by rw [nI_clamp (by omega)]; exact c1
    have r2 : a_hKey (nI i).toNatClampNeg = nI (hq i) := by rw [nI_clamp (by omega)]; exact c3
    have r3 : a_start (nI s).toNatClampNeg = nI m := by rw [nI_clamp (by omega)]; exact hst
    have keep : ¬ (m < hc i ∧ hq i = j) → wY_write_64 post (nI s) (nI j) val th f_limit f_commits f_durable (nI H) a_hCommit a_hKey a_hValue a_hThere a_cStart a_cRead a_cWrite a_known a_open a_strict a_start a_readSet a_sCount a_saves a_sKey a_sValue a_sThere a_saved f (nI (i + 1)) := by
      intro z
      refine ih (i + 1) f (by omega) (by omega) ?_
      intro i' h'
      by_cases e : i' = i
      · rw [e]; exact z
      · exact hl i' (by omega)
    refine br_f (nI_ge (by omega) (by omega)) ⟨in5, in4, pk_le (hc i) m (fun q => nm_r (nI_1 i) (keep (fun z => absurd z.1 (by omega)))) (fun q => ⟨in5, pk_eq (hq i) j (fun e => ⟨in4, nm_r (e' := upd a_open s 0) (wr_i (by omega) bl_n0) (hp2 ⟨i, by omega, q, e⟩)⟩) (fun e => nm_r (nI_1 i) (keep (fun z => e z.2))) r2 rfl⟩) r1 r3⟩
theorem yw_w21 {post : Int32 → SY → Prop} {K N : Nat → Nat} {s j : Nat} {val th : Int32} (hs : s < 4) (hj : j < 64) (hK : ∀ j, a_sKey j = nI (K j)) (hK6 : ∀ j, K j < 64) (hN : ∀ r, r < 4 → a_open r ≠ 0 → N r ≤ 12 ∧ a_sCount r = nI (N r)) (hp1 : (∃ r, r < 4 ∧ r ≠ s ∧ a_open r ≠ 0 ∧ 0 < ow_n K r (N r) j) → post 1 (f_limit, f_commits, f_durable, f_history, a_hCommit, a_hKey, a_hValue, a_hThere, a_cStart, a_cRead, a_cWrite, a_known, a_open, a_strict, a_start, a_readSet, a_sCount, a_saves, a_sKey, a_sValue, a_sThere, a_saved)) (hgo : ¬ (∃ r, r < 4 ∧ r ≠ s ∧ a_open r ≠ 0 ∧ 0 < ow_n K r (N r) j) → ∃ n64 : Nat, wY_write_64 post (nI s) (nI j) val th f_limit f_commits f_durable f_history a_hCommit a_hKey a_hValue a_hThere a_cStart a_cRead a_cWrite a_known a_open a_strict a_start a_readSet a_sCount a_saves a_sKey a_sValue a_sThere a_saved n64 0) : ∀ d i f, i + d = 4 → d < f → (∀ r, r < i → ¬ (r ≠ s ∧ a_open r ≠ 0 ∧ 0 < ow_n K r (N r) j)) → wY_write_21 post (nI s) (nI j) val th f_limit f_commits f_durable f_history a_hCommit a_hKey a_hValue a_hThere a_cStart a_cRead a_cWrite a_known a_open a_strict a_start a_readSet a_sCount a_saves a_sKey a_sValue a_sThere a_saved f (nI i) := by
  intro d
  induction d with
  | zero =>
    intro i f hi hf hl
    obtain ⟨f, rfl⟩ : ∃ q, f = q + 1 := ⟨f - 1, by omega⟩
    obtain rfl : i = 4 := by omega
    exact br_t (by decide) (hgo (fun ⟨r, a, b⟩ => hl r a b))
  | succ d ih =>
    intro i f hi hf hl
    obtain ⟨f, rfl⟩ : ∃ q, f = q + 1 := ⟨f - 1, by omega⟩
    have in4 : vp_in (nI i) 4 := vp_in_nI (by omega) (by decide)
    have ro : a_open (nI i).toNatClampNeg = a_open i := rd_a (by omega)
    have keep : ¬ (i ≠ s ∧ a_open i ≠ 0 ∧ 0 < ow_n K i (N i) j) → wY_write_21 post (nI s) (nI j) val th f_limit f_commits f_durable f_history a_hCommit a_hKey a_hValue a_hThere a_cStart a_cRead a_cWrite a_known a_open a_strict a_start a_readSet a_sCount a_saves a_sKey a_sValue a_sThere a_saved f (nI (i + 1)) := by
      intro z
      refine ih (i + 1) f (by omega) (by omega) ?_
      intro r hr
      by_cases e : r = i
      · rw [e]; exact z
      · exact hl r (by omega)
    refine br_f (nI_ge (b := 4) (by omega) (by decide)) (pk_eq i s (fun e => nm_r (nI_1 i) (keep (fun z => z.1 e))) (fun e => ⟨in4, br_c (fun o => nm_r (nI_1 i) (keep (fun z => z.2.1 (ro.symm.trans o)))) (fun o => ?_)⟩))
    have o2 : a_open i ≠ 0 := fun z => o (ro.trans z)
    obtain ⟨n12, hcn⟩ := hN i (by omega) o2
    refine yw_wrote (by omega) n12 hj hcn hK hK6 ?_
    by_cases c : 0 < ow_n K i (N i) j
    · rw [decide_eq_true c]
      exact br_f (by decide) (hp1 ⟨i, by omega, e, o2, c⟩)
    · rw [decide_eq_false c]
      exact br_t rfl (nm_r (nI_1 i) (keep (fun z => c z.2.2)))
end
theorem i_vc_rollback {k : Nat} {u : SX} {v : SY} (I : i_Rel k u v) (hk : k + 5 ≤ 2561) (v1 : Int32) : wpX_rollback (fun r u' => wpY_rollback (fun r' v' => r' = r ∧ i_Rel (k + 5) u' v') v v1) u v1 := by
  refine zz_el (P := fun u v => wpX_rollback (fun r u' => wpY_rollback (fun r' v' => r' = r ∧ i_Rel (k + 5) u' v') v v1) u v1) I ?_
  intro f_group f_present f_freeVersion f_freeCount f_tracked f_logLength f_baseMask f_commits f_durable a_newest a_verValue a_verThere a_verStamp a_verOlder a_fenwick a_open a_serial a_start a_readMask a_writeMask a_dirty a_writes a_writeKey a_writeValue a_writeThere a_writeBefore a_lastWrite a_saves a_saveAt a_trackNumber a_trackRead a_trackWrite a_trackIn a_trackOut a_logKey a_logValue a_logThere a_logStamp a_baseValue f_history a_hCommit a_hKey a_hValue a_hThere a_cStart a_cRead a_cWrite a_known a_sCount y_saves F
  have I5 := zz_in (rl_up F)
  unfold wpX_rollback
  by_cases c : ok_4 a_open v1
  · obtain ⟨s, hs, rfl, ho⟩ := c
    refine xw_idle_t hs ho (br_t rfl (xr_end F hk hs (fun w' l' m' ft' tN' tR' tW' tI' tO' F' => ?_)))
    unfold wpY_rollback
    exact yw_isOpen_t hs ho (br_f (by decide) ⟨vp_in_nI hs (by decide), nm_r (e' := upd a_open s 0) (wr_i (by omega) bl_n0) ⟨rfl, zz_in (rl_up F')⟩⟩)
  · refine xw_idle_f c (br_f (by decide) ?_)
    unfold wpY_rollback
    exact yw_isOpen_f c (br_t rfl ⟨rfl, I5⟩)
theorem i_vc_undo {k : Nat} {u : SX} {v : SY} (I : i_Rel k u v) (hk : k + 5 ≤ 2561) (v1 : Int32) : wpX_undo (fun r u' => wpY_undo (fun r' v' => r' = r ∧ i_Rel (k + 5) u' v') v v1) u v1 := by
  refine zz_el (P := fun u v => wpX_undo (fun r u' => wpY_undo (fun r' v' => r' = r ∧ i_Rel (k + 5) u' v') v v1) u v1) I ?_
  intro f_group f_present f_freeVersion f_freeCount f_tracked f_logLength f_baseMask f_commits f_durable a_newest a_verValue a_verThere a_verStamp a_verOlder a_fenwick a_open a_serial a_start a_readMask a_writeMask a_dirty a_writes a_writeKey a_writeValue a_writeThere a_writeBefore a_lastWrite a_saves a_saveAt a_trackNumber a_trackRead a_trackWrite a_trackIn a_trackOut a_logKey a_logValue a_logThere a_logStamp a_baseValue f_history a_hCommit a_hKey a_hValue a_hThere a_cStart a_cRead a_cWrite a_known a_sCount y_saves F
  have I5 := zz_in (rl_up F)
  obtain ⟨G, C, D, T, H, st, K, N, SV, SA, hc, hq, cs, tn, t, cu, V, B, fc, n, q1, q2, q3, q4, q5, q6, q7⟩ := F
  have q2' := q2
  obtain ⟨b1, b2, b3, b4, b5, b6, b7, b8, b9, b10, b11, b12, b13⟩ := q2
  obtain ⟨K1, K2, K3, W⟩ := q3
  unfold wpX_undo
  by_cases c : ok_4 a_open v1
  · obtain ⟨s, hs, rfl, ho⟩ := c
    have in4 : vp_in (nI s) 4 := vp_in_nI hs (by decide)
    have sv3 := b9 s
    obtain ⟨y1, y2⟩ := b7 s hs ho
    refine xw_idle_t hs ho (br_t rfl ⟨in4, ?_⟩)
    rw [nI_clamp (by omega), b8 s]
    refine pk_eq (SV s) 0 (fun e => ?_) (fun e => ?_)
    · unfold wpY_undo
      refine yw_isOpen_t hs ho (br_f (by decide) ⟨in4, ?_⟩)
      rw [nI_clamp (by omega), y2]
      exact pk_eq (SV s) 0 (fun _ => ⟨rfl, I5⟩) (fun z => absurd e z)
    · obtain ⟨q, hq1⟩ : ∃ q, SV s = q + 1 := ⟨SV s - 1, by omega⟩
      have e1 : (nI (SV s) - 1).toInt8.toInt32 = nI q := by rw [hq1, nI_pred]; exact nr_8 q (by omega)
      have l12 := b11 (3 * s + q)
      rw [e1, ix_3']
      refine ⟨in4, in4, nm_r (e' := upd a_saves s (nI q)) (by rw [nr_b (by omega)]) ⟨vp_in_nI (by omega) (by decide), nm_r (rd_i b10 (by omega)) (xw_takeBack hs K1 K2 (b12 s hs q (by omega)) W (fun w' l' m' W' => ?_))⟩⟩
      unfold wpY_undo
      refine yw_isOpen_t hs ho (br_f (by decide) ⟨in4, ?_⟩)
      rw [nI_clamp (by omega), y2]
      refine pk_eq (SV s) 0 (fun z => absurd z e) (fun _ => ⟨in4, in4, nm_r (e' := upd y_saves s (nI q)) (by rw [hq1, nI_pred]) ⟨in4, ?_⟩⟩)
      rw [pk_us, ix_3]
      refine ⟨vp_in_nI (by omega) (by decide), in4, nm_r (e' := upd a_sCount s (nI (SA (3 * s + q)))) (by rw [rd_i b10 (by omega)]) ⟨rfl, zz_in (rl_undo q1 q2' K1 K2 K3 q4 q5 q6 q7 hs ho hq1 W')⟩⟩
  · refine xw_idle_f c (br_f (by decide) ?_)
    unfold wpY_undo
    exact yw_isOpen_f c (br_t rfl ⟨rfl, I5⟩)
theorem i_vc_write {k : Nat} {u : SX} {v : SY} (I : i_Rel k u v) (hk : k + 5 ≤ 2561) (v1 : Int32) (v2 : Int32) (v3 : Int32) (v4 : Int32) : wpX_write (fun r u' => wpY_write (fun r' v' => r' = r ∧ i_Rel (k + 5) u' v') v v1 v2 v3 (lw_bz v4)) u v1 v2 v3 (lw_bz v4) := by
  refine zz_el (P := fun u v => wpX_write (fun r u' => wpY_write (fun r' v' => r' = r ∧ i_Rel (k + 5) u' v') v v1 v2 v3 (lw_bz v4)) u v1 v2 v3 (lw_bz v4)) I ?_
  intro f_group f_present f_freeVersion f_freeCount f_tracked f_logLength f_baseMask f_commits f_durable a_newest a_verValue a_verThere a_verStamp a_verOlder a_fenwick a_open a_serial a_start a_readMask a_writeMask a_dirty a_writes a_writeKey a_writeValue a_writeThere a_writeBefore a_lastWrite a_saves a_saveAt a_trackNumber a_trackRead a_trackWrite a_trackIn a_trackOut a_logKey a_logValue a_logThere a_logStamp a_baseValue f_history a_hCommit a_hKey a_hValue a_hThere a_cStart a_cRead a_cWrite a_known a_sCount y_saves F
  have I5 := zz_in (rl_up F)
  have F0 := F
  obtain ⟨G, C, D, T, H, st, K, N, SV, SA, hc, hq, cs, tn, t, cu, V, B, fc, n, q1, q2, q3, q4, q5, q6, q7⟩ := F
  have q2' := q2
  have q3' := q3
  have q5' := q5
  obtain ⟨b1, b2, b3, b4, b5, b6, b7, b8, b9, b10, b11, b12, b13⟩ := q2
  obtain ⟨K1, K2, K3, W⟩ := q3
  obtain ⟨S, S2, S3, S4, S5⟩ := q5
  unfold wpX_write
  by_cases c : ok_4 a_open v1
  · obtain ⟨s, hs, rfl, ho⟩ := c
    by_cases d : ok_k v2
    · obtain ⟨j, hj, rfl⟩ := d
      have in4 : vp_in (nI s) 4 := vp_in_nI hs (by decide)
      have n12 := W.2.1 s
      have hN : ∀ r, r < 4 → a_open r ≠ 0 → N r ≤ 12 ∧ a_sCount r = nI (N r) := fun r hr h => ⟨W.2.1 r, (b7 r hr h).1⟩
      have lk : mb_b (lk_m a_writeMask s 4) j = true ↔ ∃ r, r < 4 ∧ r ≠ s ∧ a_open r ≠ 0 ∧ 0 < ow_n K r (N r) j := by
        rw [lk_b]
        constructor
        · rintro ⟨r, r1, r2, r3⟩
          rw [W.2.2.2.2 r r1, ws_b K2] at r3
          have r4 := of_decide_eq_true r3
          refine ⟨r, r1, r2, fun z => ?_, r4⟩
          rw [(b6 r r1 z).1] at r4
          exact absurd r4 (by simp [ow_n])
        · rintro ⟨r, r1, r2, r3, r4⟩
          refine ⟨r, r1, r2, ?_⟩
          rw [W.2.2.2.2 r r1, ws_b K2]
          exact decide_eq_true r4
      refine xw_idle_t hs ho (br_t rfl (xw_key_t hj (br_t rfl (xw_locked hs hj ?_))))
      cases hl : mb_b (lk_m a_writeMask s 4) j
      · have nl : ¬ ∃ r, r < 4 ∧ r ≠ s ∧ a_open r ≠ 0 ∧ 0 < ow_n K r (N r) j := fun z => by rw [lk.mpr z] at hl; exact absurd hl (by decide)
        refine br_t rfl ⟨in4, xw_bit ?_⟩
        rw [nI_clamp (by omega)]
        have db := S5 s hs ho j hj
        refine br_c (fun z => ?_) (fun z => ?_)
        · rw [(mb_t0 hj _).mp z] at db
          have nw : ¬ wr_h hc hq H (st s) j := pb_j.mp db.symm
          refine ⟨in4, ?_⟩
          rw [W.1 s]
          refine pk_eq (N s) 12 (fun e => ?_) (fun e => ?_)
          · unfold wpY_write
            exact yw_isOpen_t hs ho (br_f (by decide) (yw_isKey_t hj (br_f (by decide) ⟨5, yw_w21 hs hj K1 K2 hN (fun z => absurd z nl) (fun _ => ⟨H + 1, yw_w64 q4.1 hs (b4 s) (b3 s) hj n12 (b7 s hs ho).1 (lw_bz_01 v4) (fun z => absurd z nw) (fun _ _ => ⟨rfl, I5⟩) (fun _ z => absurd z (by omega)) H 0 (H + 1) (by omega) (by omega) (fun i' h' => absurd h' (by omega))⟩) 4 0 5 (by omega) (by omega) (fun r hr => absurd hr (by omega))⟩)))
          · have e1 : (nI (N s) + 1).toInt8.toInt32 = nI (N s + 1) := by rw [nI_1]; exact nr_8 _ (by omega)
            have in48 : vp_in (nI (12 * s + N s)) 48 := vp_in_nI (by omega) (by decide)
            have e64 : 64 * nI s + nI j = nI (64 * s + j) := ix_64 _ _
            have ol := ow_le (K := K) (s := s) (k := j) (N s)
            rw [e1, e64]
            have in256 : vp_in (nI (64 * s + j)) 256 := vp_in_nI (by omega) (by decide)
            refine ⟨in4, in4, nm_r (e' := upd a_writes s (nI (N s + 1))) (by rw [nr_b (by omega)]) (nm_r (e' := nI (12 * s + N s)) (ix_12' _ _) ⟨in48, nm_r (wr_i (by omega) (nr_bb (by omega))) ⟨in48, nm_r (wr_i (by omega) rfl) ⟨in48, nm_r (wr_i (by omega) (bz_v v4)) ⟨in256, in48, nm_r (e' := upd a_writeBefore (12 * s + N s) (nI (ow_n K s (N s) j))) (wr_i (by omega) ?_) ⟨in256, nm_r (e' := upd a_lastWrite (64 * s + j) (nI (12 * s + N s + 1))) (wr_i (by omega) ?_) ⟨in4, xw_bit ⟨in4, nm_e ?_⟩⟩⟩⟩⟩⟩⟩)⟩
            · rw [nI_clamp (by omega), W.2.2.1 s hs j hj]; exact nr_b (by omega)
            · rw [nI_1]; exact nr_bb (by omega)
            · unfold wpY_write
              exact yw_isOpen_t hs ho (br_f (by decide) (yw_isKey_t hj (br_f (by decide) ⟨5, yw_w21 hs hj K1 K2 hN (fun z => absurd z nl) (fun _ => ⟨H + 1, yw_w64 q4.1 hs (b4 s) (b3 s) hj n12 (b7 s hs ho).1 (lw_bz_01 v4) (fun z => absurd z nw) (fun _ z => absurd z e) (fun _ _ => ⟨rfl, zz_in (rl_write q1 q2' q3' q4 q5' q6 q7 hs ho hj (by omega) (lw_bz_01 v4) _)⟩) H 0 (H + 1) (by omega) (by omega) (fun i' h' => absurd h' (by omega))⟩) 4 0 5 (by omega) (by omega) (fun r hr => absurd hr (by omega))⟩)))
        · rw [(mb_t1 hj _).mp z] at db
          have nw : wr_h hc hq H (st s) j := pb_i.mp db.symm
          refine xr_end F0 hk hs (fun w' l' m' ft' tN' tR' tW' tI' tO' F' => ?_)
          unfold wpY_write
          exact yw_isOpen_t hs ho (br_f (by decide) (yw_isKey_t hj (br_f (by decide) ⟨5, yw_w21 hs hj K1 K2 hN (fun z => absurd z nl) (fun _ => ⟨H + 1, yw_w64 q4.1 hs (b4 s) (b3 s) hj n12 (b7 s hs ho).1 (lw_bz_01 v4) (fun _ => ⟨rfl, zz_in (rl_up F')⟩) (fun z => absurd nw z) (fun z => absurd nw z) H 0 (H + 1) (by omega) (by omega) (fun i' h' => absurd h' (by omega))⟩) 4 0 5 (by omega) (by omega) (fun r hr => absurd hr (by omega))⟩)))
      · refine br_f (by decide) ?_
        unfold wpY_write
        exact yw_isOpen_t hs ho (br_f (by decide) (yw_isKey_t hj (br_f (by decide) ⟨5, yw_w21 hs hj K1 K2 hN (fun _ => ⟨rfl, I5⟩) (fun z => absurd (lk.mp hl) z) 4 0 5 (by omega) (by omega) (fun r hr => absurd hr (by omega))⟩)))
    · refine xw_idle_t hs ho (br_t rfl (xw_key_f d (br_f (by decide) ?_)))
      unfold wpY_write
      exact yw_isOpen_t hs ho (br_f (by decide) (yw_isKey_f d (br_t rfl ⟨rfl, I5⟩)))
  · refine xw_idle_f c (br_f (by decide) ?_)
    unfold wpY_write
    exact yw_isOpen_f c (br_t rfl ⟨rfl, I5⟩)
end
section
/-! next and sum -/
def nt_s (K : Nat → Nat) (s n lo : Nat) : Nat → Int64
  | 0 => 0
  | i + 1 => nt_s K s n lo i ||| nt_b K s n (lo + i)
theorem nt_bb {K : Nat → Nat} {s n k : Nat} (hk : k < 64) (j : Nat) : mb_b (nt_b K s n k) j = (decide (j = k) && !decide (0 < ow_n K s n k)) := by
  unfold nt_b
  by_cases c : 0 < ow_n K s n k
  · rw [if_pos c, mb_0, decide_eq_true c, Bool.not_true, Bool.and_false]
  · rw [if_neg c, mb_tb hk, decide_eq_false c, Bool.not_false, Bool.and_true]
theorem nt_sb {K : Nat → Nat} {s n lo j : Nat} : ∀ i, lo + i ≤ 64 → mb_b (nt_s K s n lo i) j = ((decide (lo ≤ j) && decide (j < lo + i)) && !decide (0 < ow_n K s n j))
  | 0, _ => by
    show mb_b 0 j = _
    rw [mb_0]
    by_cases c : lo ≤ j
    · rw [decide_eq_false (p := j < lo + 0) (by omega), Bool.and_false, Bool.false_and]
    · rw [decide_eq_false c, Bool.false_and, Bool.false_and]
  | i + 1, h => by
    show mb_b (nt_s K s n lo i ||| nt_b K s n (lo + i)) j = _
    rw [mb_or, nt_sb i (by omega), nt_bb (by omega)]
    by_cases c : j = lo + i
    · rw [← c, decide_eq_true (p := j = j) rfl, decide_eq_false (p := j < j) (by omega), decide_eq_true (p := lo ≤ j) (by omega), decide_eq_true (p := j < lo + (i + 1)) (by omega)]
      rfl
    · rw [decide_eq_false c, Bool.false_and, Bool.or_false]
      congr 2
      by_cases d : j < lo + i
      · rw [decide_eq_true d, decide_eq_true (p := j < lo + (i + 1)) (by omega)]
      · rw [decide_eq_false d, decide_eq_false (p := j < lo + (i + 1)) (by omega)]
/-- the keys of a stretch less the own ones -/
theorem rm_s {K : Nat → Nat} {s n lo hi : Nat} {x : Int64} (hK : ∀ j, K j < 64) (hl : lo ≤ hi) (hh : hi < 64) (hx : ∀ j, j < 64 → mb_b x j = (decide (lo ≤ j) && decide (j ≤ hi))) : (x &&& (ws_t K s n ^^^ (-1))) = nt_s K s n lo (hi + 1 - lo) := by
  apply mb_ext
  intro j hj
  rw [mb_and, mb_not hj, ws_b hK, hx j hj, nt_sb _ (by omega)]
  congr 2
  by_cases d : j ≤ hi
  · rw [decide_eq_true d, decide_eq_true (p := j < lo + (hi + 1 - lo)) (by omega)]
  · rw [decide_eq_false d, decide_eq_false (p := j < lo + (hi + 1 - lo)) (by omega)]
theorem nt_st {K : Nat → Nat} {s n lo i : Nat} {a : Nat → Int64} : vp_updL (vp_updL a s (a s ||| nt_s K s n lo i)) s ((vp_updL a s (a s ||| nt_s K s n lo i)) s ||| nt_b K s n (lo + i)) = vp_updL a s (a s ||| nt_s K s n lo (i + 1)) := by
  rw [wr_two, pk_uLs, Int64.or_assoc]
  rfl
theorem nt_s0 {K : Nat → Nat} {s n lo : Nat} {a : Nat → Int64} : vp_updL a s (a s ||| nt_s K s n lo 0) = a := wr_self (by show a s = a s ||| 0; rw [Int64.or_zero])
theorem is_r {f g : Nat → Int64} {lo : Nat} : ∀ d, (∀ j, lo ≤ j → j < lo + d → f j = g j) → is_m f (lo + d) - is_m f lo = is_m g (lo + d) - is_m g lo
  | 0, _ => by show is_m f lo - is_m f lo = is_m g lo - is_m g lo; grind
  | d + 1, h => by
    have a := is_r d (fun j h1 h2 => h j h1 (by omega))
    have b := h (lo + d) (by omega) (by omega)
    show is_m f (lo + d) + f (lo + d) - is_m f lo = is_m g (lo + d) + g (lo + d) - is_m g lo
    grind
section
variable {f_limit : Int32} {f_commits : Int32} {f_durable : Int32} {f_history : Int32} {a_hCommit : Nat → Int32} {a_hKey : Nat → Int32} {a_hValue : Nat → Int32} {a_hThere : Nat → Int32} {a_cStart : Nat → Int32} {a_cRead : Nat → Int64} {a_cWrite : Nat → Int64} {a_known : Nat → Int32} {a_open : Nat → Int32} {a_strict : Nat → Int32} {a_start : Nat → Int32} {a_readSet : Nat → Int64} {a_sCount : Nat → Int32} {a_saves : Nat → Int32} {a_sKey : Nat → Int32} {a_sValue : Nat → Int32} {a_sThere : Nat → Int32} {a_saved : Nat → Int32}
theorem yw_next_go {post : Int32 → SY → Prop} {hc hq : Nat → Nat} {H m : Nat} {K : Nat → Nat} {s n lo : Nat} (R : hy_r f_history a_hCommit a_hKey hc hq H) (hs : s < 4) (hn : n ≤ 12) (hm : m < 2 ^ 31) (hst : a_start s = nI m) (hcn : a_sCount s = nI n) (hK : ∀ j, a_sKey j = nI (K j)) (hK6 : ∀ j, K j < 64)
    (hp64 : lo ≤ 64 → (∀ j, lo ≤ j → j < 64 → sn_v K a_sValue a_sThere s n j (af_t hc hq a_hValue a_hThere m j H) = none) → post 64 (f_limit, f_commits, f_durable, f_history, a_hCommit, a_hKey, a_hValue, a_hThere, a_cStart, a_cRead, a_cWrite, a_known, a_open, a_strict, a_start, vp_updL a_readSet s (a_readSet s ||| nt_s K s n lo (64 - lo)), a_sCount, a_saves, a_sKey, a_sValue, a_sThere, a_saved))
    (hpf : ∀ i, lo + i < 64 → sn_v K a_sValue a_sThere s n (lo + i) (af_t hc hq a_hValue a_hThere m (lo + i) H) ≠ none → (∀ j, lo ≤ j → j < lo + i → sn_v K a_sValue a_sThere s n j (af_t hc hq a_hValue a_hThere m j H) = none) → post (nI (lo + i)) (f_limit, f_commits, f_durable, f_history, a_hCommit, a_hKey, a_hValue, a_hThere, a_cStart, a_cRead, a_cWrite, a_known, a_open, a_strict, a_start, vp_updL a_readSet s (a_readSet s ||| nt_s K s n lo (i + 1)), a_sCount, a_saves, a_sKey, a_sValue, a_sThere, a_saved)) :
    ∀ d i f, lo + i + d = 64 → d < f → (∀ j, lo ≤ j → j < lo + i → sn_v K a_sValue a_sThere s n j (af_t hc hq a_hValue a_hThere m j H) = none) → wY_next_20 post (nI s) f (nI (lo + i)) f_limit f_commits f_durable f_history a_hCommit a_hKey a_hValue a_hThere a_cStart a_cRead a_cWrite a_known a_open a_strict a_start (vp_updL a_readSet s (a_readSet s ||| nt_s K s n lo i)) a_sCount a_saves a_sKey a_sValue a_sThere a_saved := by
  intro d
  induction d with
  | zero =>
    intro i f hi hf hl
    obtain ⟨f, rfl⟩ : ∃ q, f = q + 1 := ⟨f - 1, by omega⟩
    obtain rfl : i = 64 - lo := by omega
    refine br_t (nI_le (a := 64) (by omega) (by omega)) (hp64 (by omega) (fun j h1 h2 => hl j h1 (by omega)))
  | succ d ih =>
    intro i f hi hf hl
    obtain ⟨f, rfl⟩ : ∃ q, f = q + 1 := ⟨f - 1, by omega⟩
    refine br_f (nI_ge (b := 64) (by omega) (by decide)) (yw_note hs hn (by omega) hcn hK hK6 ?_)
    rw [nt_st]
    refine yw_sees R hs hn (by omega) hm hst hcn hK hK6 (br_c (fun z => nm_r (e' := nI (lo + (i + 1))) (nI_1 _) (ih (i + 1) f (by omega) (by omega) ?_)) (fun z => hpf i (by omega) (fun e => z (en_a.mpr e)) hl))
    intro j h1 h2
    by_cases e : j = lo + i
    · rw [e]; exact en_a.mp z
    · exact hl j h1 (by omega)
theorem yw_sum_go {post : Int64 → SY → Prop} {hc hq : Nat → Nat} {H m : Nat} {K : Nat → Nat} {s n lo hi : Nat} (R : hy_r f_history a_hCommit a_hKey hc hq H) (hs : s < 4) (hn : n ≤ 12) (hm : m < 2 ^ 31) (hst : a_start s = nI m) (hcn : a_sCount s = nI n) (hK : ∀ j, a_sKey j = nI (K j)) (hK6 : ∀ j, K j < 64) (hh : hi < 64)
    (hp : post (is_m (fun j => wg_t (sn_v K a_sValue a_sThere s n j (af_t hc hq a_hValue a_hThere m j H))) (hi + 1) - is_m (fun j => wg_t (sn_v K a_sValue a_sThere s n j (af_t hc hq a_hValue a_hThere m j H))) lo) (f_limit, f_commits, f_durable, f_history, a_hCommit, a_hKey, a_hValue, a_hThere, a_cStart, a_cRead, a_cWrite, a_known, a_open, a_strict, a_start, vp_updL a_readSet s (a_readSet s ||| nt_s K s n lo (hi + 1 - lo)), a_sCount, a_saves, a_sKey, a_sValue, a_sThere, a_saved)) :
    ∀ d i f x4, lo + i + d = hi + 1 → d < f → x4 = is_m (fun j => wg_t (sn_v K a_sValue a_sThere s n j (af_t hc hq a_hValue a_hThere m j H))) (lo + i) - is_m (fun j => wg_t (sn_v K a_sValue a_sThere s n j (af_t hc hq a_hValue a_hThere m j H))) lo → wY_sum_34 post (nI s) (nI hi) f x4 (nI (lo + i)) f_limit f_commits f_durable f_history a_hCommit a_hKey a_hValue a_hThere a_cStart a_cRead a_cWrite a_known a_open a_strict a_start (vp_updL a_readSet s (a_readSet s ||| nt_s K s n lo i)) a_sCount a_saves a_sKey a_sValue a_sThere a_saved := by
  intro d
  induction d with
  | zero =>
    intro i f x4 hi' hf hx
    obtain ⟨f, rfl⟩ : ∃ q, f = q + 1 := ⟨f - 1, by omega⟩
    obtain rfl : i = hi + 1 - lo := by omega
    refine br_t (nI_lt (by omega) (by omega)) ?_
    rw [hx, show lo + (hi + 1 - lo) = hi + 1 by omega]
    exact hp
  | succ d ih =>
    intro i f x4 hi' hf hx
    obtain ⟨f, rfl⟩ : ∃ q, f = q + 1 := ⟨f - 1, by omega⟩
    refine br_f (nI_nlt (by omega) (by omega)) (yw_note hs hn (by omega) hcn hK hK6 ?_)
    rw [nt_st]
    refine yw_sees R hs hn (by omega) hm hst hcn hK hK6 ?_
    have es : is_m (fun j => wg_t (sn_v K a_sValue a_sThere s n j (af_t hc hq a_hValue a_hThere m j H))) (lo + (i + 1)) = is_m (fun j => wg_t (sn_v K a_sValue a_sThere s n j (af_t hc hq a_hValue a_hThere m j H))) (lo + i) + wg_t (sn_v K a_sValue a_sThere s n (lo + i) (af_t hc hq a_hValue a_hThere m (lo + i) H)) := rfl
    cases hv : sn_v K a_sValue a_sThere s n (lo + i) (af_t hc hq a_hValue a_hThere m (lo + i) H) with
    | none =>
      refine br_t rfl (nm_r (e' := nI (lo + (i + 1))) (nI_1 _) (ih (i + 1) f x4 (by omega) (by omega) ?_))
      rw [es, hv, hx, show wg_t none = 0 from rfl]
      grind
    | some x =>
      refine br_f (en_s x) (nm_e (nm_r (e' := nI (lo + (i + 1))) (nI_1 _) (ih (i + 1) f _ (by omega) (by omega) ?_)))
      rw [es, hv, hx, show wg_t (some x) = en_c (some x) from rfl]
      grind
end
theorem i_vc_next {k : Nat} {u : SX} {v : SY} (I : i_Rel k u v) (hk : k + 5 ≤ 2561) (v1 : Int32) (v2 : Int32) : wpX_next (fun r u' => wpY_next (fun r' v' => r' = r ∧ i_Rel (k + 5) u' v') v v1 v2) u v1 v2 := by
  refine zz_el (P := fun u v => wpX_next (fun r u' => wpY_next (fun r' v' => r' = r ∧ i_Rel (k + 5) u' v') v v1 v2) u v1 v2) I ?_
  intro f_group f_present f_freeVersion f_freeCount f_tracked f_logLength f_baseMask f_commits f_durable a_newest a_verValue a_verThere a_verStamp a_verOlder a_fenwick a_open a_serial a_start a_readMask a_writeMask a_dirty a_writes a_writeKey a_writeValue a_writeThere a_writeBefore a_lastWrite a_saves a_saveAt a_trackNumber a_trackRead a_trackWrite a_trackIn a_trackOut a_logKey a_logValue a_logThere a_logStamp a_baseValue f_history a_hCommit a_hKey a_hValue a_hThere a_cStart a_cRead a_cWrite a_known a_sCount y_saves F
  have I5 := zz_in (rl_up F)
  have F0 := F
  obtain ⟨G, C, D, T, H, st, K, N, SV, SA, hc, hq, cs, tn, t, cu, V, B, fc, n, q1, q2, q3, q4, q5, q6, q7⟩ := F
  obtain ⟨b1, b2, b3, b4, b5, b6, b7, b8, b9, b10, b11, b12, b13⟩ := q2
  obtain ⟨K1, K2, K3, W⟩ := q3
  obtain ⟨S, S2, S3, S4, S5⟩ := q5
  unfold wpX_next
  by_cases c : ok_4 a_open v1
  · obtain ⟨s, hs, rfl, ho⟩ := c
    by_cases d : ok_k v2
    · obtain ⟨lo, hlo, rfl⟩ := d
      have hd := rl_d S2 S4 S5 q4.2.1 hs ho (b5 s hs ho)
      refine xw_idle_t hs ho (br_t rfl (xw_key_t hlo (br_t rfl (xw_seenMask S W K2 K3 hs (b3 s) (b4 s) hd (fun x hx => nm_e ?_)))))
      have hx2 : ∀ j, j < 64 → mb_b (x &&& ((-1 : Int64) <<< ((nI lo).toInt64 &&& 63))) j = ((sn_v K a_writeValue a_writeThere s (N s) j (af_t hc hq a_hValue a_hThere (st s) j H)).isSome && decide (lo ≤ j)) := by
        intro j hj
        rw [mb_and, hx j hj, mb_from hlo hj, S4 s hs ho j hj]
      have fin : ∀ hi r, lo ≤ hi → hi < 64 → (wpY_next (fun r' v' => r' = r ∧ i_Rel (k + 5) (f_group, f_present, f_freeVersion, f_freeCount, f_tracked, f_logLength, f_baseMask, f_commits, f_durable, a_newest, a_verValue, a_verThere, a_verStamp, a_verOlder, a_fenwick, a_open, a_serial, a_start, vp_updL a_readMask s (a_readMask s ||| nt_s K s (N s) lo (hi + 1 - lo)), a_writeMask, a_dirty, a_writes, a_writeKey, a_writeValue, a_writeThere, a_writeBefore, a_lastWrite, a_saves, a_saveAt, a_trackNumber, a_trackRead, a_trackWrite, a_trackIn, a_trackOut, a_logKey, a_logValue, a_logThere, a_logStamp, a_baseValue) v') (f_group, f_commits, f_durable, f_history, a_hCommit, a_hKey, a_hValue, a_hThere, a_cStart, a_cRead, a_cWrite, a_known, a_open, a_serial, a_start, a_readMask, a_sCount, y_saves, a_writeKey, a_writeValue, a_writeThere, a_saveAt) (nI s) (nI lo)) → wX_next_52 (fun r u' => wpY_next (fun r' v' => r' = r ∧ i_Rel (k + 5) u' v') (f_group, f_commits, f_durable, f_history, a_hCommit, a_hKey, a_hValue, a_hThere, a_cStart, a_cRead, a_cWrite, a_known, a_open, a_serial, a_start, a_readMask, a_sCount, y_saves, a_writeKey, a_writeValue, a_writeThere, a_saveAt) (nI s) (nI lo)) (nI s) r (nI hi) (nI lo) f_group f_present f_freeVersion f_freeCount f_tracked f_logLength f_baseMask f_commits f_durable a_newest a_verValue a_verThere a_verStamp a_verOlder a_fenwick a_open a_serial a_start a_readMask a_writeMask a_dirty a_writes a_writeKey a_writeValue a_writeThere a_writeBefore a_lastWrite a_saves a_saveAt a_trackNumber a_trackRead a_trackWrite a_trackIn a_trackOut a_logKey a_logValue a_logThere a_logStamp a_baseValue := by
        intro hi r h1 h2 h3
        unfold wX_next_52
        refine xw_span h1 h2 (fun y hy => xw_noteRead hs ?_)
        rw [W.2.2.2.2 s hs, rm_s K2 h1 h2 hy]
        exact h3
      by_cases e : (x &&& ((-1 : Int64) <<< ((nI lo).toInt64 &&& 63))) = 0
      · refine xw_low64 e (br_t rfl (fin 63 64 (by omega) (by omega) ?_))
        have none_ : ∀ j, lo ≤ j → j < 64 → sn_v K a_writeValue a_writeThere s (N s) j (af_t hc hq a_hValue a_hThere (st s) j H) = none := by
          intro j h1 h2
          have g := hx2 j h2
          rw [e, mb_0, decide_eq_true h1, Bool.and_true] at g
          cases hv : sn_v K a_writeValue a_writeThere s (N s) j (af_t hc hq a_hValue a_hThere (st s) j H) with
          | none => rfl
          | some y => rw [hv] at g; exact absurd g (show ¬ false = true by decide)
        unfold wpY_next
        refine yw_isOpen_t hs ho (br_f (by decide) (yw_isKey_t hlo (br_f (by decide) ⟨65, ?_⟩)))
        have g : wY_next_20 (fun r' v' => r' = 64 ∧ i_Rel (k + 5) (f_group, f_present, f_freeVersion, f_freeCount, f_tracked, f_logLength, f_baseMask, f_commits, f_durable, a_newest, a_verValue, a_verThere, a_verStamp, a_verOlder, a_fenwick, a_open, a_serial, a_start, vp_updL a_readMask s (a_readMask s ||| nt_s K s (N s) lo (63 + 1 - lo)), a_writeMask, a_dirty, a_writes, a_writeKey, a_writeValue, a_writeThere, a_writeBefore, a_lastWrite, a_saves, a_saveAt, a_trackNumber, a_trackRead, a_trackWrite, a_trackIn, a_trackOut, a_logKey, a_logValue, a_logThere, a_logStamp, a_baseValue) v') (nI s) 65 (nI (lo + 0)) f_group f_commits f_durable f_history a_hCommit a_hKey a_hValue a_hThere a_cStart a_cRead a_cWrite a_known a_open a_serial a_start (vp_updL a_readMask s (a_readMask s ||| nt_s K s (N s) lo 0)) a_sCount y_saves a_writeKey a_writeValue a_writeThere a_saveAt := yw_next_go q4.1 hs (W.2.1 s) (b4 s) (b3 s) (b7 s hs ho).1 K1 K2 (fun _ _ => ⟨rfl, zz_in (rl_up F0)⟩) (fun i h1 h2 _ => absurd (none_ (lo + i) (by omega) h1) h2) (64 - lo) 0 65 (by omega) (by omega) (fun j h1 h2 => absurd h2 (by omega))
        rw [nt_s0] at g
        exact g
      · refine xw_lowest e (fun j hj hb hl => ?_)
        rw [hx2 j hj, Bool.and_eq_true] at hb
        have loj : lo ≤ j := of_decide_eq_true hb.2
        have n64 : ¬ nI j = 64 := fun z => by
          have := nr_inj (b := 64) z (by omega) (by decide)
          omega
        refine br_f n64 (fin j (nI j) loj hj ?_)
        have none_ : ∀ i, lo ≤ i → i < j → sn_v K a_writeValue a_writeThere s (N s) i (af_t hc hq a_hValue a_hThere (st s) i H) = none := by
          intro i h1 h2
          have g := hl i h2
          rw [hx2 i (by omega), decide_eq_true h1, Bool.and_true] at g
          cases hv : sn_v K a_writeValue a_writeThere s (N s) i (af_t hc hq a_hValue a_hThere (st s) i H) with
          | none => rfl
          | some y => rw [hv] at g; exact absurd g (show ¬ true = false by decide)
        have some_ : sn_v K a_writeValue a_writeThere s (N s) j (af_t hc hq a_hValue a_hThere (st s) j H) ≠ none := fun z => by rw [z] at hb; exact absurd hb.1 (by decide)
        unfold wpY_next
        refine yw_isOpen_t hs ho (br_f (by decide) (yw_isKey_t hlo (br_f (by decide) ⟨65, ?_⟩)))
        have g : wY_next_20 (fun r' v' => r' = nI j ∧ i_Rel (k + 5) (f_group, f_present, f_freeVersion, f_freeCount, f_tracked, f_logLength, f_baseMask, f_commits, f_durable, a_newest, a_verValue, a_verThere, a_verStamp, a_verOlder, a_fenwick, a_open, a_serial, a_start, vp_updL a_readMask s (a_readMask s ||| nt_s K s (N s) lo (j + 1 - lo)), a_writeMask, a_dirty, a_writes, a_writeKey, a_writeValue, a_writeThere, a_writeBefore, a_lastWrite, a_saves, a_saveAt, a_trackNumber, a_trackRead, a_trackWrite, a_trackIn, a_trackOut, a_logKey, a_logValue, a_logThere, a_logStamp, a_baseValue) v') (nI s) 65 (nI (lo + 0)) f_group f_commits f_durable f_history a_hCommit a_hKey a_hValue a_hThere a_cStart a_cRead a_cWrite a_known a_open a_serial a_start (vp_updL a_readMask s (a_readMask s ||| nt_s K s (N s) lo 0)) a_sCount y_saves a_writeKey a_writeValue a_writeThere a_saveAt := yw_next_go q4.1 hs (W.2.1 s) (b4 s) (b3 s) (b7 s hs ho).1 K1 K2 (fun _ h => absurd (h j loj hj) some_) (fun i h1 h2 h3 => by
          have ei : lo + i = j := by
            apply Decidable.byContradiction
            intro z
            by_cases y : lo + i < j
            · exact h2 (none_ (lo + i) (by omega) y)
            · exact some_ (h3 j loj (by omega))
          have e2 : i + 1 = j + 1 - lo := by omega
          rw [ei, e2]
          exact ⟨rfl, zz_in (rl_up F0)⟩) (64 - lo) 0 65 (by omega) (by omega) (fun j h1 h2 => absurd h2 (by omega))
        rw [nt_s0] at g
        exact g
    · refine xw_idle_t hs ho (br_t rfl (xw_key_f d (br_f (by decide) ?_)))
      unfold wpY_next
      exact yw_isOpen_t hs ho (br_f (by decide) (yw_isKey_f d (br_t rfl ⟨rfl, I5⟩)))
  · refine xw_idle_f c (br_f (by decide) ?_)
    unfold wpY_next
    exact yw_isOpen_f c (br_t rfl ⟨rfl, I5⟩)
theorem i_vc_sum {k : Nat} {u : SX} {v : SY} (I : i_Rel k u v) (hk : k + 5 ≤ 2561) (v1 : Int32) (v2 : Int32) (v3 : Int32) : wpX_sum (fun r u' => wpY_sum (fun r' v' => r' = r ∧ i_Rel (k + 5) u' v') v v1 v2 v3) u v1 v2 v3 := by
  refine zz_el (P := fun u v => wpX_sum (fun r u' => wpY_sum (fun r' v' => r' = r ∧ i_Rel (k + 5) u' v') v v1 v2 v3) u v1 v2 v3) I ?_
  intro f_group f_present f_freeVersion f_freeCount f_tracked f_logLength f_baseMask f_commits f_durable a_newest a_verValue a_verThere a_verStamp a_verOlder a_fenwick a_open a_serial a_start a_readMask a_writeMask a_dirty a_writes a_writeKey a_writeValue a_writeThere a_writeBefore a_lastWrite a_saves a_saveAt a_trackNumber a_trackRead a_trackWrite a_trackIn a_trackOut a_logKey a_logValue a_logThere a_logStamp a_baseValue f_history a_hCommit a_hKey a_hValue a_hThere a_cStart a_cRead a_cWrite a_known a_sCount y_saves F
  have I5 := zz_in (rl_up F)
  have F0 := F
  obtain ⟨G, C, D, T, H, st, K, N, SV, SA, hc, hq, cs, tn, t, cu, V, B, fc, n, q1, q2, q3, q4, q5, q6, q7⟩ := F
  obtain ⟨b1, b2, b3, b4, b5, b6, b7, b8, b9, b10, b11, b12, b13⟩ := q2
  obtain ⟨K1, K2, K3, W⟩ := q3
  obtain ⟨S, S2, S3, S4, S5⟩ := q5
  unfold wpX_sum
  by_cases c : ok_4 a_open v1
  · obtain ⟨s, hs, rfl, ho⟩ := c
    have in4 : vp_in (nI s) 4 := vp_in_nI hs (by decide)
    by_cases d : ok_k v2
    · obtain ⟨lo, hlo, rfl⟩ := d
      by_cases d3 : ok_k v3
      · obtain ⟨hi, hhi, rfl⟩ := d3
        have hd := rl_d S2 S4 S5 q4.2.1 hs ho (b5 s hs ho)
        refine xw_idle_t hs ho (br_t rfl (xw_key_t hlo (br_t rfl (xw_key_t hhi (br_t rfl (pk_le lo hi (fun h1 => ?_) (fun h1 => ?_)))))))
        · refine xw_span h1 hhi (fun y hy => xw_noteRead hs ?_)
          rw [W.2.2.2.2 s hs, rm_s K2 h1 hhi hy, nI_1]
          refine xw_below S (by omega) (xw_below S (by omega) (nm_e ⟨in4, in4, nm_r (e' := (a_dirty s ||| a_writeMask s) &&& y) (by rw [nI_clamp (by omega)]) ⟨mb_n ((a_dirty s ||| a_writeMask s) &&& y) + 1, ?_⟩⟩))
          refine xw_sum_go (lo := lo) (hi := hi) S W K3 hs (b3 s) (b4 s) hd ?_ _ _ _ (by omega) ?_ ?_
          · have cc : ∀ m, m ≤ 64 → is_m (fun j => wg_t (sn_v K a_writeValue a_writeThere s (N s) j (V (st s) j))) m = is_m (fun j => wg_t (sn_v K a_writeValue a_writeThere s (N s) j (af_t hc hq a_hValue a_hThere (st s) j H))) m := fun m hm => is_c m (fun j hj => by rw [S4 s hs ho j (by omega)])
            rw [cc (hi + 1) (by omega), cc lo (by omega)]
            unfold wpY_sum
            refine yw_isOpen_t hs ho (br_f (by decide) (yw_isKey_t hlo (br_f (by decide) (yw_isKey_t hhi (br_f (by decide) ⟨66, ?_⟩)))))
            have g : wY_sum_34 (fun r' v' => r' = is_m (fun j => wg_t (sn_v K a_writeValue a_writeThere s (N s) j (af_t hc hq a_hValue a_hThere (st s) j H))) (hi + 1) - is_m (fun j => wg_t (sn_v K a_writeValue a_writeThere s (N s) j (af_t hc hq a_hValue a_hThere (st s) j H))) lo ∧ i_Rel (k + 5) (f_group, f_present, f_freeVersion, f_freeCount, f_tracked, f_logLength, f_baseMask, f_commits, f_durable, a_newest, a_verValue, a_verThere, a_verStamp, a_verOlder, a_fenwick, a_open, a_serial, a_start, vp_updL a_readMask s (a_readMask s ||| nt_s K s (N s) lo (hi + 1 - lo)), a_writeMask, a_dirty, a_writes, a_writeKey, a_writeValue, a_writeThere, a_writeBefore, a_lastWrite, a_saves, a_saveAt, a_trackNumber, a_trackRead, a_trackWrite, a_trackIn, a_trackOut, a_logKey, a_logValue, a_logThere, a_logStamp, a_baseValue) v') (nI s) (nI hi) 66 0 (nI (lo + 0)) f_group f_commits f_durable f_history a_hCommit a_hKey a_hValue a_hThere a_cStart a_cRead a_cWrite a_known a_open a_serial a_start (vp_updL a_readMask s (a_readMask s ||| nt_s K s (N s) lo 0)) a_sCount y_saves a_writeKey a_writeValue a_writeThere a_saveAt := yw_sum_go q4.1 hs (W.2.1 s) (b4 s) (b3 s) (b7 s hs ho).1 K1 K2 hhi ⟨rfl, zz_in (rl_up F0)⟩ (hi + 1 - lo) 0 66 0 (by omega) (by omega) (by rw [Nat.add_zero]; grind)
            rw [nt_s0] at g
            exact g
          · intro j hj
            have j64 := mb_lt hj
            rw [mb_and, Bool.and_eq_true, hy j j64, Bool.and_eq_true] at hj
            exact ⟨of_decide_eq_true hj.2.1, of_decide_eq_true hj.2.2⟩
          · have r := is_r (f := fun k => wg_t (cu k)) (g := fun j => if mb_b ((a_dirty s ||| a_writeMask s) &&& y) j = true then wg_t (cu j) else wg_t (sn_v K a_writeValue a_writeThere s (N s) j (V (st s) j))) (lo := lo) (hi + 1 - lo) (by
              intro j j1 j2
              show wg_t (cu j) = (if mb_b ((a_dirty s ||| a_writeMask s) &&& y) j = true then wg_t (cu j) else wg_t (sn_v K a_writeValue a_writeThere s (N s) j (V (st s) j)))
              by_cases e : mb_b ((a_dirty s ||| a_writeMask s) &&& y) j = true
              · rw [if_pos e]
              · rw [if_neg e]
                have e2 := bo_nt e
                rw [mb_and, hy j (by omega), decide_eq_true j1, decide_eq_true (p := j ≤ hi) (by omega), Bool.and_self, Bool.and_true, mb_or, Bool.or_eq_false_iff, W.2.2.2.2 s hs, ws_b K2] at e2
                have z : ow_n K s (N s) j = 0 := by
                  have := of_decide_eq_false e2.2
                  omega
                rw [sn_0 _ z, hd j (by omega) e2.1])
            rw [show lo + (hi + 1 - lo) = hi + 1 by omega] at r
            exact r
        · unfold wpY_sum
          exact yw_isOpen_t hs ho (br_f (by decide) (yw_isKey_t hlo (br_f (by decide) (yw_isKey_t hhi (br_f (by decide) ⟨1, br_t (nI_lt h1 (by omega)) ⟨rfl, I5⟩⟩)))))
      · refine xw_idle_t hs ho (br_t rfl (xw_key_t hlo (br_t rfl (xw_key_f d3 (br_f (by decide) ?_)))))
        unfold wpY_sum
        exact yw_isOpen_t hs ho (br_f (by decide) (yw_isKey_t hlo (br_f (by decide) (yw_isKey_f d3 (br_t rfl ⟨rfl, I5⟩)))))
    · refine xw_idle_t hs ho (br_t rfl (xw_key_f d (br_f (by decide) ?_)))
      unfold wpY_sum
      exact yw_isOpen_t hs ho (br_f (by decide) (yw_isKey_f d (br_t rfl ⟨rfl, I5⟩)))
  · refine xw_idle_f c (br_f (by decide) ?_)
    unfold wpY_sum
    exact yw_isOpen_f c (br_t rfl ⟨rfl, I5⟩)
end
section
/-! the reference's commit; the history of a commit -/
theorem up_two {a : Nat → Int32} {i : Nat} {x y : Int32} : upd (upd a i x) i y = upd a i y := by
  funext j
  by_cases e : j = i
  · rw [e, pk_us, pk_us]
  · rw [pk_un e, pk_un e, pk_un e]
section
variable {f_limit : Int32} {f_commits : Int32} {f_durable : Int32} {f_history : Int32} {a_hCommit : Nat → Int32} {a_hKey : Nat → Int32} {a_hValue : Nat → Int32} {a_hThere : Nat → Int32} {a_cStart : Nat → Int32} {a_cRead : Nat → Int64} {a_cWrite : Nat → Int64} {a_known : Nat → Int32} {a_open : Nat → Int32} {a_strict : Nat → Int32} {a_start : Nat → Int32} {a_readSet : Nat → Int64} {a_sCount : Nat → Int32} {a_saves : Nat → Int32} {a_sKey : Nat → Int32} {a_sValue : Nat → Int32} {a_sThere : Nat → Int32} {a_saved : Nat → Int32}
theorem yw_commit {post : Int32 → SY → Prop} {H C s n : Nat} {K st cs : Nat → Nat} (hs : s < 4) (ho : a_open s ≠ 0) (hC : f_commits = nI C) (hC5 : C + 2 < 520) (hHn : H + n ≤ 520) (hH : f_history = nI H) (hn : n ≤ 12) (hcn : a_sCount s = nI n) (hK : ∀ j, a_sKey j = nI (K j)) (hst : ∀ s, a_start s = nI (st s)) (hsb : ∀ s, st s < 2 ^ 31) (hth : bl_ok a_sThere) (hsr : bl_ok a_strict) (hcs : ∀ q, a_cStart q = nI (cs q)) (hcb : ∀ q, cs q < 2 ^ 31) (k0 : a_known 0 = 0)
    (hp3 : a_strict s ≠ 0 → ar_d (upd a_known (C + 1) (a_strict s)) (un_u cs (C + 1) (st s)) (vp_updL a_cRead (C + 1) (a_readSet s)) (vp_updL a_cWrite (C + 1) (ws_t K s n)) (C + 1) → post 3 (f_limit, f_commits, f_durable, f_history, a_hCommit, a_hKey, a_hValue, a_hThere, upd a_cStart (C + 1) (nI (st s)), vp_updL a_cRead (C + 1) (a_readSet s), vp_updL a_cWrite (C + 1) (ws_t K s n), upd a_known (C + 1) 0, upd a_open s 0, a_strict, a_start, a_readSet, a_sCount, a_saves, a_sKey, a_sValue, a_sThere, a_saved))
    (hp4 : a_strict s ≠ 0 → ¬ ar_d (upd a_known (C + 1) (a_strict s)) (un_u cs (C + 1) (st s)) (vp_updL a_cRead (C + 1) (a_readSet s)) (vp_updL a_cWrite (C + 1) (ws_t K s n)) (C + 1) → 8 ≤ cn_t (fun j => pb_p (a_known j ≠ 0 ∧ li_v a_open a_strict st s j)) (C + 1) → post 4 (f_limit, f_commits, f_durable, f_history, a_hCommit, a_hKey, a_hValue, a_hThere, upd a_cStart (C + 1) (nI (st s)), vp_updL a_cRead (C + 1) (a_readSet s), vp_updL a_cWrite (C + 1) (ws_t K s n), upd a_known (C + 1) 0, upd a_open s 0, a_strict, a_start, a_readSet, a_sCount, a_saves, a_sKey, a_sValue, a_sThere, a_saved))
    (hp0 : (a_strict s ≠ 0 → ¬ ar_d (upd a_known (C + 1) (a_strict s)) (un_u cs (C + 1) (st s)) (vp_updL a_cRead (C + 1) (a_readSet s)) (vp_updL a_cWrite (C + 1) (ws_t K s n)) (C + 1) ∧ cn_t (fun j => pb_p (a_known j ≠ 0 ∧ li_v a_open a_strict st s j)) (C + 1) < 8) → ((nI (C + 1) - f_durable) < f_limit → post 0 (f_limit, nI (C + 1), f_durable, nI (H + n), cp_y a_hCommit H (fun _ => nI (C + 1)) n, cp_y a_hKey H (fun i => a_sKey (12 * s + i)) n, cp_y a_hValue H (fun i => a_sValue (12 * s + i)) n, cp_y a_hThere H (fun i => a_sThere (12 * s + i)) n, upd a_cStart (C + 1) (nI (st s)), vp_updL a_cRead (C + 1) (a_readSet s), vp_updL a_cWrite (C + 1) (ws_t K s n), upd a_known (C + 1) (a_strict s), upd a_open s 0, a_strict, a_start, a_readSet, a_sCount, a_saves, a_sKey, a_sValue, a_sThere, a_saved)) ∧ (¬ (nI (C + 1) - f_durable) < f_limit → post 0 (f_limit, nI (C + 1), nI (C + 1), nI (H + n), cp_y a_hCommit H (fun _ => nI (C + 1)) n, cp_y a_hKey H (fun i => a_sKey (12 * s + i)) n, cp_y a_hValue H (fun i => a_sValue (12 * s + i)) n, cp_y a_hThere H (fun i => a_sThere (12 * s + i)) n, upd a_cStart (C + 1) (nI (st s)), vp_updL a_cRead (C + 1) (a_readSet s), vp_updL a_cWrite (C + 1) (ws_t K s n), upd a_known (C + 1) (a_strict s), upd a_open s 0, a_strict, a_start, a_readSet, a_sCount, a_saves, a_sKey, a_sValue, a_sThere, a_saved))) :
    wpY_commit post (f_limit, f_commits, f_durable, f_history, a_hCommit, a_hKey, a_hValue, a_hThere, a_cStart, a_cRead, a_cWrite, a_known, a_open, a_strict, a_start, a_readSet, a_sCount, a_saves, a_sKey, a_sValue, a_sThere, a_saved) (nI s) := by
  have in4 : vp_in (nI s) 4 := vp_in_nI hs (by decide)
  have inC : vp_in (nI (C + 1)) 520 := vp_in_nI (by omega) (by decide)
  have eC : f_commits + 1 = nI (C + 1) := by rw [hC]; exact nI_1 C
  have rs : a_strict (nI s).toNatClampNeg = a_strict s := rd_a (by omega)
  unfold wpY_commit
  refine yw_isOpen_t hs ho (br_f (by decide) (nm_r eC ⟨in4, nm_r (e' := upd a_open s 0) (wr_i (by omega) bl_n0) ⟨in4, inC, nm_r (e' := upd a_cStart (C + 1) (nI (st s))) (wr_i (by omega) (rd_i hst (by omega))) ⟨in4, inC, nm_r (e' := vp_updL a_cRead (C + 1) (a_readSet s)) (wr_l (by omega) (rd_a (by omega))) (yw_writeSet hs hn hcn hK ⟨inC, nm_r (e' := vp_updL a_cWrite (C + 1) (ws_t K s n)) (wr_l (by omega) rfl) ⟨in4, inC, nm_r (e' := upd a_known (C + 1) (a_strict s)) (wr_i (by omega) ?_) ⟨in4, ?_⟩⟩⟩)⟩⟩⟩))
  · rw [rs]; exact bl_nar (hsr s)
  · rw [rs]
    have hcs' : ∀ q, upd a_cStart (C + 1) (nI (st s)) q = nI (un_u cs (C + 1) (st s) q) := un_upd hcs _ _
    have hcb' : ∀ q, un_u cs (C + 1) (st s) q < 2 ^ 31 := by
      intro q
      by_cases e : q = C + 1
      · rw [e, un_s]; exact hsb s
      · rw [un_n e]; exact hcb q
    have cnt : cn_t (fun j => pb_p (upd a_known (C + 1) (a_strict s) j ≠ 0 ∧ li_v (upd a_open s 0) a_strict st s j)) (C + 1) = cn_t (fun j => pb_p (a_known j ≠ 0 ∧ li_v a_open a_strict st s j)) (C + 1) := by
      apply cn_c
      intro j hj
      apply pb_c
      rw [pk_un (show j ≠ C + 1 by omega)]
      constructor
      · rintro ⟨h1, r, r1, r2, r3, r4⟩
        rw [pk_un r2] at r3
        exact ⟨h1, r, r1, r2, r3, r4⟩
      · rintro ⟨h1, r, r1, r2, r3, r4⟩
        exact ⟨h1, r, r1, r2, by rw [pk_un r2]; exact r3, r4⟩
    have go : (a_strict s ≠ 0 → ¬ ar_d (upd a_known (C + 1) (a_strict s)) (un_u cs (C + 1) (st s)) (vp_updL a_cRead (C + 1) (a_readSet s)) (vp_updL a_cWrite (C + 1) (ws_t K s n)) (C + 1) ∧ cn_t (fun j => pb_p (a_known j ≠ 0 ∧ li_v a_open a_strict st s j)) (C + 1) < 8) → ∃ n125 : Nat, wY_commit_125 post (nI s) (nI (C + 1)) f_limit f_commits f_durable n125 (nI (12 * s + 0)) f_history a_hCommit a_hKey a_hValue a_hThere (upd a_cStart (C + 1) (nI (st s))) (vp_updL a_cRead (C + 1) (a_readSet s)) (vp_updL a_cWrite (C + 1) (ws_t K s n)) (upd a_known (C + 1) (a_strict s)) (upd a_open s 0) a_strict a_start a_readSet a_sCount a_saves a_sKey a_sValue a_sThere a_saved := by
      intro h
      refine ⟨n + 1, ?_⟩
      rw [hH]
      exact yw_c125 hs hn hHn hcn hth (hp0 h) n 0 (n + 1) (by omega) (by omega)
    refine br_c (fun z => nm_r (ix_120 s) (go (fun y => absurd z y))) (fun z => ?_)
    refine yw_dangerous hC (by omega) hcs' hcb' ?_
    by_cases dd : ar_d (upd a_known (C + 1) (a_strict s)) (un_u cs (C + 1) (st s)) (vp_updL a_cRead (C + 1) (a_readSet s)) (vp_updL a_cWrite (C + 1) (ws_t K s n)) (C + 1)
    · rw [pb_t dd]
      refine br_f (by decide) ?_
      unfold wY_commit_106
      refine br_f (by decide) ⟨inC, nm_r (e' := upd a_known (C + 1) 0) ?_ (hp3 z dd)⟩
      rw [nI_clamp (by omega), bl_n0, up_two]
    · rw [pb_f dd]
      refine br_t rfl (yw_tracked hC (by omega) (hb_s hs) hst hsb ?_ ?_)
      · rw [pk_un (by omega)]; exact k0
      · rw [cnt]
        have cb := cn_le (fun j => pb_p (a_known j ≠ 0 ∧ li_v a_open a_strict st s j)) (C + 1)
        refine pk_lt (cn_t (fun j => pb_p (a_known j ≠ 0 ∧ li_v a_open a_strict st s j)) (C + 1)) 8 (fun q => ?_) (fun q => ?_)
        · unfold wY_commit_106
          exact br_t rfl (nm_r (ix_120 s) (go (fun _ => ⟨dd, q⟩)))
        · unfold wY_commit_106
          refine br_f (by decide) ⟨inC, nm_r (e' := upd a_known (C + 1) 0) ?_ (hp4 z dd q)⟩
          rw [nI_clamp (by omega), bl_n0, up_two]
end
/-- the history with the commit's writes -/
def hn_c (hc : Nat → Nat) (H n c : Nat) : Nat → Nat := fun i => if H ≤ i ∧ i < H + n then c else hc i
def hn_k (hq K : Nat → Nat) (H n s : Nat) : Nat → Nat := fun i => if H ≤ i ∧ i < H + n then K (12 * s + (i - H)) else hq i
section
variable {hc hq K : Nat → Nat} {a_hCommit a_hKey hv ht wk wv wt : Nat → Int32} {H n C s : Nat} {f_history : Int32}
theorem hn_co {i : Nat} {c : Nat} (h : i < H) : hn_c hc H n c i = hc i := if_neg (by omega)
theorem hn_ci {i : Nat} {c : Nat} (h : i < n) : hn_c hc H n c (H + i) = c := if_pos (by omega)
theorem hn_ko {i : Nat} (h : i < H) : hn_k hq K H n s i = hq i := if_neg (by omega)
theorem hn_ki {i : Nat} (h : i < n) : hn_k hq K H n s (H + i) = K (12 * s + i) := by
  unfold hn_k
  rw [if_pos (by omega), show H + i - H = i by omega]
theorem hn_d (q4 : qd_h C H hc hq f_history a_hCommit a_hKey) (hK : ∀ j, wk j = nI (K j)) (hK6 : ∀ j, K j < 64) (hH : H + n ≤ 520) (hC : C + 1 < 2 ^ 31) : qd_h (C + 1) (H + n) (hn_c hc H n (C + 1)) (hn_k hq K H n s) (nI (H + n)) (cp_y a_hCommit H (fun _ => nI (C + 1)) n) (cp_y a_hKey H (fun i => wk (12 * s + i)) n) := by
  obtain ⟨⟨h1, h2, h3⟩, h4, h5⟩ := q4
  refine ⟨⟨rfl, hH, ?_⟩, ?_, ?_⟩
  · intro j
    obtain ⟨c1, c2, c3, c4⟩ := h3 j
    by_cases e : H ≤ j ∧ j < H + n
    · obtain ⟨i, rfl⟩ : ∃ i, j = H + i := ⟨j - H, by omega⟩
      rw [hn_ci (by omega), hn_ki (by omega), cp_i n (by omega), cp_i n (by omega)]
      exact ⟨rfl, hC, hK _, hK6 _⟩
    · rw [cp_o n (by omega), cp_o n (by omega)]
      unfold hn_c hn_k
      rw [if_neg e, if_neg e]
      exact ⟨c1, c2, c3, c4⟩
  · intro i hi
    by_cases e : i < H
    · rw [hn_co e]; have := h4 i e; omega
    · obtain ⟨j, rfl⟩ : ∃ j, i = H + j := ⟨i - H, by omega⟩
      rw [hn_ci (by omega)]; exact Nat.le_refl _
  · intro i j hij hj
    by_cases e : j < H
    · rw [hn_co e, hn_co (show i < H by omega)]; exact h5 i j hij e
    · obtain ⟨j', rfl⟩ : ∃ j', j = H + j' := ⟨j - H, by omega⟩
      rw [hn_ci (i := j') (by omega)]
      by_cases e2 : i < H
      · rw [hn_co e2]; have := h4 i e2; omega
      · obtain ⟨i', rfl⟩ : ∃ i', i = H + i' := ⟨i - H, by omega⟩
        rw [hn_ci (by omega)]; exact Nat.le_refl _
theorem hn_a (hC : ∀ i, i < H → hc i ≤ C) (m k : Nat) : af_t (hn_c hc H n (C + 1)) (hn_k hq K H n s) (cp_y hv H (fun i => wv (12 * s + i)) n) (cp_y ht H (fun i => wt (12 * s + i)) n) m k (H + n) = if C + 1 ≤ m then sn_v K wv wt s n k (af_t hc hq hv ht m k H) else af_t hc hq hv ht m k H := by
  unfold af_t
  rw [la_x]
  have e1 : la_v none (fun i => decide (hn_c hc H n (C + 1) i ≤ m) && decide (hn_k hq K H n s i = k)) (fun i => ov_l (cp_y ht H (fun i => wt (12 * s + i)) n i) (cp_y hv H (fun i => wv (12 * s + i)) n i)) H = la_v none (fun i => decide (hc i ≤ m) && decide (hq i = k)) (fun i => ov_l (ht i) (hv i)) H := by
    apply la_c rfl
    · intro i hi; rw [hn_co hi, hn_ko hi]
    · intro i hi _; rw [cp_o n (Or.inl hi), cp_o n (Or.inl hi)]
  rw [e1]
  by_cases c : C + 1 ≤ m
  · rw [if_pos c]
    unfold sn_v
    apply la_c rfl
    · intro i hi
      rw [hn_ci hi, hn_ki hi, decide_eq_true c, Bool.true_and]
    · intro i hi _
      rw [cp_i n hi, cp_i n hi]
  · rw [if_neg c]
    apply la_0
    intro i hi
    rw [hn_ci hi, decide_eq_false c, Bool.false_and]
theorem hn_w {m k : Nat} (hm : m ≤ C) : wr_h (hn_c hc H n (C + 1)) (hn_k hq K H n s) (H + n) m k ↔ (wr_h hc hq H m k ∨ 0 < ow_n K s n k) := by
  rw [ow_i]
  constructor
  · rintro ⟨i, i1, i2, i3⟩
    by_cases e : i < H
    · rw [hn_co e] at i2
      rw [hn_ko e] at i3
      exact Or.inl ⟨i, e, i2, i3⟩
    · obtain ⟨j, rfl⟩ : ∃ j, i = H + j := ⟨i - H, by omega⟩
      rw [hn_ki (by omega)] at i3
      exact Or.inr ⟨j, by omega, i3⟩
  · rintro (⟨i, i1, i2, i3⟩ | ⟨j, j1, j2⟩)
    · exact ⟨i, by omega, by rw [hn_co i1]; exact i2, by rw [hn_ko i1]; exact i3⟩
    · exact ⟨H + j, by omega, by rw [hn_ci j1]; omega, by rw [hn_ki j1]; exact j2⟩
theorem af_ge {m k : Nat} (hC : ∀ i, i < H → hc i ≤ C) (hm : C ≤ m) : af_t hc hq hv ht m k H = af_t hc hq hv ht C k H := by
  apply la_c rfl
  · intro i hi
    have := hC i hi
    rw [decide_eq_true (p := hc i ≤ m) (by omega), decide_eq_true (p := hc i ≤ C) this]
  · intro i hi _; rfl
end
end
section
/-! the component's commit -/
section
variable {f_group : Int32} {f_present : Int64} {f_freeVersion : Int32} {f_freeCount : Int32} {f_tracked : Int32} {f_logLength : Int32} {f_baseMask : Int64} {f_commits : Int32} {f_durable : Int32} {a_newest : Nat → Int32} {a_verValue : Nat → Int32} {a_verThere : Nat → Int32} {a_verStamp : Nat → Int32} {a_verOlder : Nat → Int32} {a_fenwick : Nat → Int64} {a_open : Nat → Int32} {a_serial : Nat → Int32} {a_start : Nat → Int32} {a_readMask : Nat → Int64} {a_writeMask : Nat → Int64} {a_dirty : Nat → Int64} {a_writes : Nat → Int32} {a_writeKey : Nat → Int32} {a_writeValue : Nat → Int32} {a_writeThere : Nat → Int32} {a_writeBefore : Nat → Int32} {a_lastWrite : Nat → Int32} {a_saves : Nat → Int32} {a_saveAt : Nat → Int32} {a_trackNumber : Nat → Int32} {a_trackRead : Nat → Int64} {a_trackWrite : Nat → Int64} {a_trackIn : Nat → Int32} {a_trackOut : Nat → Int32} {a_logKey : Nat → Int32} {a_logValue : Nat → Int32} {a_logThere : Nat → Int32} {a_logStamp : Nat → Int32} {a_baseValue : Nat → Int32} {f_history : Int32} {a_hCommit : Nat → Int32} {a_hKey : Nat → Int32} {a_hValue : Nat → Int32} {a_hThere : Nat → Int32} {a_cStart : Nat → Int32} {a_cRead : Nat → Int64} {a_cWrite : Nat → Int64} {a_known : Nat → Int32} {a_sCount : Nat → Int32} {y_saves : Nat → Int32} {k : Nat} {G C D T H n0 : Nat} {st K N SV SA hc hq : Nat → Nat} {cu : Nat → Option Int32} {V : Nat → Nat → Option Int32} {B : Nat → Nat} {fc s : Nat}
/-- behind the puts: versions, dirty rows and the log stand for the history with the commit -/
theorem rl_c {p : Int64} {fv fcI : Int32} {nw vv vt vs od : Nat → Int32} {fe dty : Nat → Int64} {fl : Int32} {lK lV lT lS bV : Nat → Int32} {bM : Int64} (hs : s < 4) (hDC : D ≤ C) (K2 : ∀ j, K j < 64) (W : wi_v K N a_writes a_writeBefore a_lastWrite a_writeMask) (hC : ∀ i, i < H → hc i ≤ C) (S2 : ∀ k, k < 64 → cu k = af_t hc hq a_hValue a_hThere C k H) (S4 : ∀ s, s < 4 → a_open s ≠ 0 → ∀ k, k < 64 → V (st s) k = af_t hc hq a_hValue a_hThere (st s) k H) (S5 : ∀ s, s < 4 → a_open s ≠ 0 → ∀ k, k < 64 → mb_b (a_dirty s) k = pb_p (wr_h hc hq H (st s) k)) (b5 : ∀ s, s < 4 → a_open s ≠ 0 → st s ≤ C) (pl : pl_i (a_writeMask s) (fun k => ov_l (a_writeThere (ow_n K s (N s) k - 1)) (a_writeValue (ow_n K s (N s) k - 1))) (C + 1) D 72 (12 * (C - D) + 12) cu V (fun m k => af_t hc hq a_hValue a_hThere m k H) a_dirty bV bM 0 p fv fcI nw vv vt vs od fe dty fl lK lV lT lS) : ∃ cu' V' B' fc' n', qe_v (C + 1) (H + N s) st (hn_c hc H (N s) (C + 1)) (hn_k hq K H (N s) s) cu' V' B' fc' p fv fcI nw vv vt vs od fe a_open dty (cp_y a_hValue H (fun i => a_writeValue (12 * s + i)) (N s)) (cp_y a_hThere H (fun i => a_writeThere (12 * s + i)) (N s)) ∧ lo_i fl lK lV lT lS bV bM D (C + 1) (fun m k => af_t (hn_c hc H (N s) (C + 1)) (hn_k hq K H (N s) s) (cp_y a_hValue H (fun i => a_writeValue (12 * s + i)) (N s)) (cp_y a_hThere H (fun i => a_writeThere (12 * s + i)) (N s)) m k (H + N s)) n' (12 * (C + 1 - D)) ∧ n' ≤ 72 := by
  obtain ⟨cu', V', B', fc', A', n', cb, C', S, L, i1, i2, i3, i4, i5, i6, i7, i8, i9, i10⟩ := pl
  have wb : ∀ j, (mb_b (a_writeMask s) j && !mb_b 0 j) = decide (0 < ow_n K s (N s) j) := by
    intro j
    rw [mb_0, Bool.not_false, Bool.and_true, W.2.2.2.2 s hs, ws_b K2]
  have z0 : cn_t (mb_b 0) 64 = 0 := cn_z 64 (fun j _ => mb_0 j)
  rw [z0] at i3 i4 i5
  have sn : ∀ j d, sn_v K a_writeValue a_writeThere s (N s) j d = if decide (0 < ow_n K s (N s) j) = true then ov_l (a_writeThere (ow_n K s (N s) j - 1)) (a_writeValue (ow_n K s (N s) j - 1)) else d := by
    intro j d
    by_cases c : 0 < ow_n K s (N s) j
    · rw [if_pos (decide_eq_true c), sn_p _ c]
    · rw [if_neg (by rw [decide_eq_false c]; decide), sn_0 _ (by omega)]
  refine ⟨cu', V', B', fc', n', ⟨S, ?_, i2, ?_, ?_⟩, ?_, by omega⟩
  · intro j hj
    rw [i7 j hj, wb j, hn_a hC, if_pos (Nat.le_refl _), sn, af_ge hC (show C ≤ C + 1 by omega), ← S2 j hj]
  · intro r hr ho j hj
    have := b5 r hr ho
    rw [i8 j hj, if_neg (by omega), hn_a hC, if_neg (by omega)]
    exact S4 r hr ho j hj
  · intro r hr ho j hj
    rw [i10 r hr j hj, wb j, S5 r hr ho j hj]
    apply bo_ext
    rw [Bool.or_eq_true, pb_i, pb_i, hn_w (b5 r hr ho), decide_eq_true_eq]
  · refine lo_ext L (Nat.le_refl _) i1 ?_ (by omega)
    intro m hm j hj
    rw [i9 j hj m, wb j, hn_a hC]
    by_cases c : C + 1 ≤ m
    · rw [if_pos c, sn]
      by_cases d : decide (0 < ow_n K s (N s) j) = true
      · rw [if_pos d, if_pos ⟨c, d⟩]
      · rw [if_neg d, if_neg (fun z => d z.2)]
    · rw [if_neg c, if_neg (fun z => c z.1)]
theorem wm_c (hs : s < 4) (K2 : ∀ j, K j < 64) (W : wi_v K N a_writes a_writeBefore a_lastWrite a_writeMask) : cn_t (mb_b (a_writeMask s)) 64 ≤ 12 := by
  have e : cn_t (mb_b (a_writeMask s)) 64 = cn_t (fun k => decide (0 < ow_n K s (N s) k)) 64 := cn_c 64 (fun j _ => by rw [W.2.2.2.2 s hs, ws_b K2])
  rw [e]
  exact Nat.le_trans (ow_cn K s (N s)) (W.2.1 s)
theorem xr_60 {post : Int32 → SX → Prop} {kn' cS' : Nat → Int32} {cs' : Nat → Nat} {cr' cw' : Nat → Int64} {P1 : Nat → Prop} {t1 : Nat} {tn1 : Nat → Nat} (hk : k + 5 ≤ 2561) (q1 : qa_n k G C D T H N f_group f_commits f_durable) (q2 : qb_s C st N SV SA a_open a_serial a_start a_saves a_saveAt a_sCount y_saves) (q3 : qc_k K N a_writes a_writeKey a_writeThere a_writeBefore a_lastWrite a_writeMask) (q4 : qd_h C H hc hq f_history a_hCommit a_hKey) (q5 : qe_v C H st hc hq cu V B fc f_present f_freeVersion f_freeCount a_newest a_verValue a_verThere a_verStamp a_verOlder a_fenwick a_open a_dirty a_hValue a_hThere) (L : lo_i f_logLength a_logKey a_logValue a_logThere a_logStamp a_baseValue f_baseMask D C (fun m k => af_t hc hq a_hValue a_hThere m k H) n0 (12 * (C - D))) (hn0 : n0 ≤ 60) (hfc : 12 ≤ fc) (T1 : tk_i kn' cs' cr' cw' (C + 1) P1 f_tracked a_trackNumber a_trackRead a_trackWrite a_trackIn a_trackOut t1 tn1) (ht1 : t1 ≤ 9) (T3 : ∀ j, cS' j = nI (cs' j)) (T4 : ∀ j, cs' j < 2 ^ 31) (T5 : ∀ m, kn' m ≠ 0 → 1 ≤ m ∧ m ≤ C + 1 ∧ cs' m < m) (hP : ∀ m, kn' m ≠ 0 → li_v (upd a_open s 0) a_serial st 4 m → P1 m) (hcnt : cn_t (fun j => pb_p (kn' j ≠ 0 ∧ li_v (upd a_open s 0) a_serial st 4 j)) (C + 1 + 1) ≤ 8) (hs : s < 4)
    (hp : ∀ p' fV' fC' ft' fl' fd' nw' vv' vt' vs' od' fe' m' dty' w' l' tN' tR' tW' tI' tO' lK' lV' lT' lS', ((fd' = nI (C + 1) ∧ C + 1 = D + G) ∨ (fd' = f_durable ∧ C + 1 < D + G)) → rl_f (k + 5) f_group p' fV' fC' ft' fl' f_baseMask (nI (C + 1)) fd' nw' vv' vt' vs' od' fe' (upd a_open s 0) a_serial a_start a_readMask m' dty' w' a_writeKey a_writeValue a_writeThere a_writeBefore l' (upd a_saves s 0) a_saveAt tN' tR' tW' tI' tO' lK' lV' lT' lS' a_baseValue (nI (H + N s)) (cp_y a_hCommit H (fun _ => nI (C + 1)) (N s)) (cp_y a_hKey H (fun i => a_writeKey (12 * s + i)) (N s)) (cp_y a_hValue H (fun i => a_writeValue (12 * s + i)) (N s)) (cp_y a_hThere H (fun i => a_writeThere (12 * s + i)) (N s)) cS' cr' cw' kn' a_sCount y_saves → post 0 (f_group, p', fV', fC', ft', fl', f_baseMask, nI (C + 1), fd', nw', vv', vt', vs', od', fe', upd a_open s 0, a_serial, a_start, a_readMask, m', dty', w', a_writeKey, a_writeValue, a_writeThere, a_writeBefore, l', upd a_saves s 0, a_saveAt, tN', tR', tW', tI', tO', lK', lV', lT', lS', a_baseValue)) :
    wX_commit_60 post (nI s) 0 f_group f_present f_freeVersion f_freeCount f_tracked f_logLength f_baseMask f_commits f_durable a_newest a_verValue a_verThere a_verStamp a_verOlder a_fenwick a_open a_serial a_start a_readMask a_writeMask a_dirty a_writes a_writeKey a_writeValue a_writeThere a_writeBefore a_lastWrite a_saves a_saveAt a_trackNumber a_trackRead a_trackWrite a_trackIn a_trackOut a_logKey a_logValue a_logThere a_logStamp a_baseValue := by
  have q2' := q2
  obtain ⟨a1, a2, a3, a4, a5, a6, a7, a8, a9, a10⟩ := q1
  obtain ⟨b1, b2, b3, b4, b5, b6, b7, b8, b9, b10, b11, b12, b13⟩ := q2
  obtain ⟨K1, K2, K3, W⟩ := q3
  obtain ⟨S, S2, S3, S4, S5⟩ := q5
  have in4 : vp_in (nI s) 4 := vp_in_nI hs (by decide)
  have cm := wm_c hs K2 W
  have n12 := W.2.1 s
  have sumN : un_u N s 0 0 + un_u N s 0 1 + un_u N s 0 2 + un_u N s 0 3 + N s = N 0 + N 1 + N 2 + N 3 := by
    have e := sm_p (N := un_u N s 0) (s := s) (x := N s) hs
    rw [un_s, un_two, Nat.zero_add, un_id (f := N) rfl] at e
    exact e.symm
  have endd : ∀ (fd' : Int32) (D' : Nat) p fv fcI nw vv vt vs od fe dty fl lK lV lT lS, fd' = nI D' → D' ≤ C + 1 → C + 1 < D' + G → ((fd' = nI (C + 1) ∧ C + 1 = D + G) ∨ (fd' = f_durable ∧ C + 1 < D + G)) → (∃ cu' V' B' fc' n', qe_v (C + 1) (H + N s) st (hn_c hc H (N s) (C + 1)) (hn_k hq K H (N s) s) cu' V' B' fc' p fv fcI nw vv vt vs od fe a_open dty (cp_y a_hValue H (fun i => a_writeValue (12 * s + i)) (N s)) (cp_y a_hThere H (fun i => a_writeThere (12 * s + i)) (N s)) ∧ qg_l (C + 1) D' (H + N s) n' (hn_c hc H (N s) (C + 1)) (hn_k hq K H (N s) s) fl f_baseMask lK lV lT lS a_baseValue (cp_y a_hValue H (fun i => a_writeValue (12 * s + i)) (N s)) (cp_y a_hThere H (fun i => a_writeThere (12 * s + i)) (N s))) → wX_commit_153 post (nI s) 0 f_group p fv fcI f_tracked fl f_baseMask (nI (C + 1)) fd' nw vv vt vs od fe a_open a_serial a_start a_readMask a_writeMask dty a_writes a_writeKey a_writeValue a_writeThere a_writeBefore a_lastWrite a_saves a_saveAt a_trackNumber a_trackRead a_trackWrite a_trackIn a_trackOut lK lV lT lS a_baseValue := by
    intro fd' D' p fv fcI nw vv vt vs od fe dty fl lK lV lT lS e1 e2 e3 e4 ex
    obtain ⟨cu', V', B', fc', n', q5', q7'⟩ := ex
    unfold wX_commit_153
    refine xw_end hs K1 K2 W T1 ht1 (by omega) rfl b3 b4 b1 b2 (fun m hm => (T5 m hm).2.1) (fun w' l' m' ft' tN' tR' tW' tI' tO' t' tn' W' T' => hp _ _ _ _ _ _ _ _ _ _ _ _ _ _ _ _ _ _ _ _ _ _ _ _ _ e4 ?_)
    have T'' := tk_p (Q := li_v (upd a_open s 0) a_serial st 4) T' (fun m hm => ⟨fun z => z.2, fun z => ⟨hP m hm z, z⟩⟩)
    have t8 : t' ≤ 8 := by
      have c2 := tk_cnt T''
      omega
    exact rl_end (G := G) (C := C + 1) (D := D') (T := T + 1) (H := H + N s) (N := N) (SV := SV) (SA := SA) (cs := cs') ⟨a1, a2, a3, rfl, e1, e2, e3, by omega, by omega, by omega⟩ ⟨b1, b2, b3, b4, fun r hr h => Nat.le_trans (b5 r hr h) (by omega), b6, b7, b8, b9, b10, b11, b12, b13⟩ K1 K2 K3 (hn_d q4 K1 K2 (by omega) (by omega)) q5' q7' T3 T4 T5 hs W' T'' t8
  unfold wX_commit_60
  refine nm_r (e' := nI (C + 1)) (by rw [a4]; exact nI_1 C) ⟨in4, nm_r (e' := a_writeMask s) (rd_a (by omega)) ⟨mb_n (a_writeMask s) + 1, ?_⟩⟩
  refine xw_c77 (st := C + 1) (D := D) (nm := 72) (cbm := 12 * (C - D) + 12) (cu0 := cu) (V0 := V) (A0 := fun m k => af_t hc hq a_hValue a_hThere m k H) (d0 := a_dirty) K2 W K3 hs rfl (by omega) (by omega) ?_ _ _ _ _ _ _ _ _ _ _ _ _ _ _ _ _ _ (by omega) ?_
  · intro p fv fcI nw vv vt vs od fe dty fl lK lV lT lS pl
    obtain ⟨cu', V', B', fc', n', r5, r7, r72⟩ := rl_c hs a6 K2 W q4.2.1 S2 S4 S5 b5 pl
    have eD : nI (C + 1) - f_durable = nI (C + 1 - D) := by rw [a5]; exact pk_sub (by omega)
    rw [eD]
    refine pk_eq (C + 1 - D) G (fun e => ?_) (fun e => ?_) rfl a1
    · exact endd _ (C + 1) p fv fcI nw vv vt vs od fe dty fl lK lV lT lS rfl (Nat.le_refl _) (by omega) (Or.inl ⟨rfl, by omega⟩) ⟨cu', V', B', fc', n', r5, lo_ext (lo_dur r7 (by omega)) (Nat.le_refl _) (Nat.le_refl _) (fun _ _ _ _ => rfl) (Nat.zero_le _), r72⟩
    · exact endd _ D p fv fcI nw vv vt vs od fe dty fl lK lV lT lS a5 (by omega) (by omega) (Or.inr ⟨rfl, by omega⟩) ⟨cu', V', B', fc', n', r5, r7, r72⟩
  · refine ⟨cu, V, B, fc, _, n0, 12 * (C - D), C, S, L, by omega, fun j hj => Nat.le_trans (S3 j hj) (by omega), by omega, by omega, by omega, fun _ _ h => h, ?_, ?_, ?_, ?_⟩
    · intro j hj
      rw [Bool.and_not_self, if_neg (by decide)]
    · intro j hj m
      rw [Bool.and_not_self, if_neg (fun z => absurd z.2 (by decide))]
    · intro j hj m
      rw [Bool.and_not_self, if_neg (fun z => absurd z.2 (by decide))]
    · intro r hr j hj
      rw [Bool.and_not_self, Bool.or_false]
theorem xr_28 {post : Int32 → SX → Prop} {kn' cS' : Nat → Int32} {cs' : Nat → Nat} {cr' cw' : Nat → Int64} {P1 : Nat → Prop} {t1 : Nat} {tn1 : Nat → Nat} (hk : k + 5 ≤ 2561) (q1 : qa_n k G C D T H N f_group f_commits f_durable) (q2 : qb_s C st N SV SA a_open a_serial a_start a_saves a_saveAt a_sCount y_saves) (q3 : qc_k K N a_writes a_writeKey a_writeThere a_writeBefore a_lastWrite a_writeMask) (q4 : qd_h C H hc hq f_history a_hCommit a_hKey) (q5 : qe_v C H st hc hq cu V B fc f_present f_freeVersion f_freeCount a_newest a_verValue a_verThere a_verStamp a_verOlder a_fenwick a_open a_dirty a_hValue a_hThere) (q7 : qg_l C D H n0 hc hq f_logLength f_baseMask a_logKey a_logValue a_logThere a_logStamp a_baseValue a_hValue a_hThere) (T1 : tk_i kn' cs' cr' cw' (C + 1) P1 f_tracked a_trackNumber a_trackRead a_trackWrite a_trackIn a_trackOut t1 tn1) (ht1 : t1 ≤ 9) (T3 : ∀ j, cS' j = nI (cs' j)) (T4 : ∀ j, cs' j < 2 ^ 31) (T5 : ∀ m, kn' m ≠ 0 → 1 ≤ m ∧ m ≤ C + 1 ∧ cs' m < m) (hP : ∀ m, kn' m ≠ 0 → li_v (upd a_open s 0) a_serial st 4 m → P1 m) (hcnt : cn_t (fun j => pb_p (kn' j ≠ 0 ∧ li_v (upd a_open s 0) a_serial st 4 j)) (C + 1 + 1) ≤ 8) (hs : s < 4)
    (hp : ∀ p' fV' fC' ft' fl' bM' fd' nw' vv' vt' vs' od' fe' m' dty' w' l' tN' tR' tW' tI' tO' lK' lV' lT' lS' bV', ((fd' = nI (C + 1) ∧ C + 1 = D + G) ∨ (fd' = f_durable ∧ C + 1 < D + G)) → rl_f (k + 5) f_group p' fV' fC' ft' fl' bM' (nI (C + 1)) fd' nw' vv' vt' vs' od' fe' (upd a_open s 0) a_serial a_start a_readMask m' dty' w' a_writeKey a_writeValue a_writeThere a_writeBefore l' (upd a_saves s 0) a_saveAt tN' tR' tW' tI' tO' lK' lV' lT' lS' bV' (nI (H + N s)) (cp_y a_hCommit H (fun _ => nI (C + 1)) (N s)) (cp_y a_hKey H (fun i => a_writeKey (12 * s + i)) (N s)) (cp_y a_hValue H (fun i => a_writeValue (12 * s + i)) (N s)) (cp_y a_hThere H (fun i => a_writeThere (12 * s + i)) (N s)) cS' cr' cw' kn' a_sCount y_saves → post 0 (f_group, p', fV', fC', ft', fl', bM', nI (C + 1), fd', nw', vv', vt', vs', od', fe', upd a_open s 0, a_serial, a_start, a_readMask, m', dty', w', a_writeKey, a_writeValue, a_writeThere, a_writeBefore, l', upd a_saves s 0, a_saveAt, tN', tR', tW', tI', tO', lK', lV', lT', lS', bV')) :
    wX_commit_28 post (nI s) 0 f_group f_present f_freeVersion f_freeCount f_tracked f_logLength f_baseMask f_commits f_durable a_newest a_verValue a_verThere a_verStamp a_verOlder a_fenwick a_open a_serial a_start a_readMask a_writeMask a_dirty a_writes a_writeKey a_writeValue a_writeThere a_writeBefore a_lastWrite a_saves a_saveAt a_trackNumber a_trackRead a_trackWrite a_trackIn a_trackOut a_logKey a_logValue a_logThere a_logStamp a_baseValue := by
  have q1' := q1
  obtain ⟨a1, a2, a3, a4, a5, a6, a7, a8, a9, a10⟩ := q1
  obtain ⟨S, S2, S3, S4, S5⟩ := q5
  obtain ⟨L, n72⟩ := q7
  have fl0 : f_logLength = nI n0 := by
    obtain ⟨lk, ls, h1, _⟩ := L
    exact h1
  have m47 : ∀ fV fC ao V' fc', vs_t f_present fV fC a_newest a_verValue a_verThere a_verStamp ao a_fenwick cu V' B fc' → 12 ≤ fc' → (∀ r, r < 4 → a_open r ≠ 0 → ∀ k, k < 64 → V' (st r) k = af_t hc hq a_hValue a_hThere (st r) k H) → wX_commit_47 post (nI s) 0 f_group f_present fV fC f_tracked f_logLength f_baseMask f_commits f_durable a_newest a_verValue a_verThere a_verStamp ao a_fenwick a_open a_serial a_start a_readMask a_writeMask a_dirty a_writes a_writeKey a_writeValue a_writeThere a_writeBefore a_lastWrite a_saves a_saveAt a_trackNumber a_trackRead a_trackWrite a_trackIn a_trackOut a_logKey a_logValue a_logThere a_logStamp a_baseValue := by
    intro fV fC ao V' fc' S' f12 S4'
    unfold wX_commit_47
    refine pk_le n0 24 (fun h => ?_) (fun h => ?_) fl0 rfl
    · exact xr_60 hk q1' q2 q3 q4 ⟨S', S2, S3, S4', S5⟩ L (by omega) f12 T1 ht1 T3 T4 T5 hP hcnt hs (fun p' fV' fC' ft' fl' fd' nw' vv' vt' vs' od' fe' m' dty' w' l' tN' tR' tW' tI' tO' lK' lV' lT' lS' e F => hp p' fV' fC' ft' fl' _ fd' nw' vv' vt' vs' od' fe' m' dty' w' l' tN' tR' tW' tI' tO' lK' lV' lT' lS' _ e F)
    · refine xw_checkpoint a5 (by omega) (by omega) L (fun lK1 lV1 lT1 lS1 bV1 bM1 n1 L1 hn1 _ => ?_)
      exact xr_60 hk q1' q2 q3 q4 ⟨S', S2, S3, S4', S5⟩ L1 (by omega) f12 T1 ht1 T3 T4 T5 hP hcnt hs (fun p' fV' fC' ft' fl' fd' nw' vv' vt' vs' od' fe' m' dty' w' l' tN' tR' tW' tI' tO' lK' lV' lT' lS' e F => hp p' fV' fC' ft' fl' _ fd' nw' vv' vt' vs' od' fe' m' dty' w' l' tN' tR' tW' tI' tO' lK' lV' lT' lS' _ e F)
  unfold wX_commit_28
  obtain ⟨f1, f2⟩ := vs_fc S
  refine br_t rfl (pk_le 330 fc (fun h => ?_) (fun h => ?_) rfl f1)
  · exact m47 _ _ _ V fc S (by omega) S4
  · obtain ⟨b1, b2, b3, b4, b5, b6, b7, b8, b9, b10, b11, b12, b13⟩ := q2
    refine xw_vacuum S b3 b4 b1 (fun fV' ao' V' fc' S' h23 hV => m47 _ _ _ V' fc' S' (by omega) ?_)
    intro r hr ho j hj
    rw [hV j hj (st r) (Or.inl ⟨r, hr, ho, rfl⟩)]
    exact S4 r hr ho j hj
end
theorem i_vc_commit {k : Nat} {u : SX} {v : SY} (I : i_Rel k u v) (hk : k + 5 ≤ 2561) (v1 : Int32) : wpX_commit (fun r u' => wpY_commit (fun r' v' => r' = r ∧ i_Rel (k + 5) u' v') v v1) u v1 := by
  refine zz_el (P := fun u v => wpX_commit (fun r u' => wpY_commit (fun r' v' => r' = r ∧ i_Rel (k + 5) u' v') v v1) u v1) I ?_
  intro f_group f_present f_freeVersion f_freeCount f_tracked f_logLength f_baseMask f_commits f_durable a_newest a_verValue a_verThere a_verStamp a_verOlder a_fenwick a_open a_serial a_start a_readMask a_writeMask a_dirty a_writes a_writeKey a_writeValue a_writeThere a_writeBefore a_lastWrite a_saves a_saveAt a_trackNumber a_trackRead a_trackWrite a_trackIn a_trackOut a_logKey a_logValue a_logThere a_logStamp a_baseValue f_history a_hCommit a_hKey a_hValue a_hThere a_cStart a_cRead a_cWrite a_known a_sCount y_saves F
  have I5 := zz_in (rl_up F)
  obtain ⟨G, C, D, T, H, st, K, N, SV, SA, hc, hq, cs, tn, t, cu, V, B, fc, n, q1, q2, q3, q4, q5, q6, q7⟩ := F
  have q1' := q1
  have q2' := q2
  have q3' := q3
  have q6' := q6
  obtain ⟨a1, a2, a3, a4, a5, a6, a7, a8, a9, a10⟩ := q1
  obtain ⟨b1, b2, b3, b4, b5, b6, b7, b8, b9, b10, b11, b12, b13⟩ := q2
  obtain ⟨K1, K2, K3, W⟩ := q3
  obtain ⟨T1, T2, T3, T4, T5⟩ := q6
  unfold wpX_commit
  by_cases c : ok_4 a_open v1
  · obtain ⟨s, hs, rfl, ho⟩ := c
    have in4 : vp_in (nI s) 4 := vp_in_nI hs (by decide)
    have n12 := W.2.1 s
    have wms := W.2.2.2.2 s hs
    have Ns : N s ≤ N 0 + N 1 + N 2 + N 3 := by
      have : s = 0 ∨ s = 1 ∨ s = 2 ∨ s = 3 := by omega
      rcases this with e | e | e | e <;> subst e <;> omega
    have k0 : a_known 0 = 0 := by
      apply Decidable.byContradiction
      intro z
      have := (T5 0 z).1
      omega
    have k1 : a_known (C + 1) = 0 := by
      apply Decidable.byContradiction
      intro z
      have := (T5 _ z).2.1
      omega
    have T3' : ∀ j, upd a_cStart (C + 1) (nI (st s)) j = nI (un_u cs (C + 1) (st s) j) := un_upd T3 _ _
    have T4' : ∀ j, un_u cs (C + 1) (st s) j < 2 ^ 31 := by
      intro j
      by_cases e : j = C + 1
      · rw [e, un_s]; exact b4 s
      · rw [un_n e]; exact T4 j
    have T5' : ∀ (x : Int32) m, upd a_known (C + 1) x m ≠ 0 → 1 ≤ m ∧ m ≤ C + 1 ∧ un_u cs (C + 1) (st s) m < m := by
      intro x m hm
      by_cases e : m = C + 1
      · rw [e, un_s]; have := b5 s hs ho; omega
      · rw [pk_un e] at hm
        rw [un_n e]
        have := T5 m hm
        omega
    have sub : ∀ m, li_v (upd a_open s 0) a_serial st 4 m ↔ li_v a_open a_serial st s m := by
      intro m
      constructor
      · rintro ⟨r, r1, r2, r3, r4⟩
        have e : r ≠ s := fun z => by rw [z, pk_us] at r3; exact r3 rfl
        rw [pk_un e] at r3
        exact ⟨r, r1, e, r3, r4⟩
      · rintro ⟨r, r1, r2, r3, r4⟩
        exact ⟨r, r1, by omega, by rw [pk_un r2]; exact r3, r4⟩
    have sub4 : ∀ m, li_v a_open a_serial st s m → li_v a_open a_serial st 4 m := fun m ⟨r, r1, r2, r3⟩ => ⟨r, r1, by omega, r3⟩
    have hcn := (b7 s hs ho).1
    refine xw_idle_t hs ho (br_t rfl ⟨in4, ?_⟩)
    rw [nI_clamp (by omega)]
    refine br_c (fun z => ?_) (fun z => ?_)
    · -- not serializable
      have TS := tk_same (s0 := st s) (rm := a_readMask s) (wm := ws_t K s (N s)) T1 T5 (show C ≤ C + 1 by omega)
      refine xr_28 (cS' := upd a_cStart (C + 1) (nI (st s))) hk q1' q2' q3' q4 q5 q7 TS (by omega) T3' T4' (T5' 0) (fun m _ h => sub4 m ((sub m).mp h)) ?_ hs ?_
      · have c1 := tk_cnt T1
        have e : cn_t (fun j => pb_p (upd a_known (C + 1) 0 j ≠ 0 ∧ li_v (upd a_open s 0) a_serial st 4 j)) (C + 1 + 1) ≤ cn_t (fun j => pb_p (a_known j ≠ 0 ∧ li_v a_open a_serial st 4 j)) (C + 1) := by
          rw [cn_s, pb_f (P := upd a_known (C + 1) 0 (C + 1) ≠ 0 ∧ li_v (upd a_open s 0) a_serial st 4 (C + 1)) (fun y => y.1 pk_us), if_neg (by decide), Nat.add_zero]
          apply cn_m
          intro j hj y
          rw [pb_i] at y
          rw [pk_un (by omega)] at y
          exact pb_t ⟨y.1, sub4 j ((sub j).mp y.2)⟩
        omega
      · intro p' fV' fC' ft' fl' bM' fd' nw' vv' vt' vs' od' fe' m' dty' w' l' tN' tR' tW' tI' tO' lK' lV' lT' lS' bV' e F'
        refine yw_commit hs ho a4 (by omega) (by omega) q4.1.1 n12 hcn K1 b3 b4 K3 b2 T3 T4 k0 (fun y => absurd z y) (fun y => absurd z y) (fun _ => ?_)
        have eD : nI (C + 1) - f_durable = nI (C + 1 - D) := by rw [a5]; exact pk_sub (by omega)
        rw [eD, z]
        refine pk_lt (C + 1 - D) G (fun q => ?_) (fun q => ?_) rfl a1
        · rcases e with ⟨e1, e2⟩ | ⟨e1, e2⟩
          · omega
          · subst e1; exact ⟨rfl, zz_in F'⟩
        · rcases e with ⟨e1, e2⟩ | ⟨e1, e2⟩
          · subst e1; exact ⟨rfl, zz_in F'⟩
          · omega
    · -- serializable
      have P4 : ∀ m, a_known m ≠ 0 → st s < m → li_v a_open a_serial st 4 m := fun m _ h => ⟨s, hs, by omega, ho, z, h⟩
      have dd := tk_dang (s0 := st s) (rm := a_readMask s) (wm := a_writeMask s) (x := a_serial s) T1 T5 P4 z
      have fail : ∀ x2 : Int32, x2 ≠ 0 → (∀ Q : SY → Prop, Q (f_group, f_commits, f_durable, f_history, a_hCommit, a_hKey, a_hValue, a_hThere, upd a_cStart (C + 1) (nI (st s)), vp_updL a_cRead (C + 1) (a_readMask s), vp_updL a_cWrite (C + 1) (ws_t K s (N s)), upd a_known (C + 1) 0, upd a_open s 0, a_serial, a_start, a_readMask, a_sCount, y_saves, a_writeKey, a_writeValue, a_writeThere, a_saveAt) → wpY_commit (fun r' v' => r' = x2 ∧ Q v') (f_group, f_commits, f_durable, f_history, a_hCommit, a_hKey, a_hValue, a_hThere, a_cStart, a_cRead, a_cWrite, a_known, a_open, a_serial, a_start, a_readMask, a_sCount, y_saves, a_writeKey, a_writeValue, a_writeThere, a_saveAt) (nI s)) → wX_commit_28 (fun r u' => wpY_commit (fun r' v' => r' = r ∧ i_Rel (k + 5) u' v') (f_group, f_commits, f_durable, f_history, a_hCommit, a_hKey, a_hValue, a_hThere, a_cStart, a_cRead, a_cWrite, a_known, a_open, a_serial, a_start, a_readMask, a_sCount, y_saves, a_writeKey, a_writeValue, a_writeThere, a_saveAt) (nI s)) (nI s) x2 f_group f_present f_freeVersion f_freeCount f_tracked f_logLength f_baseMask f_commits f_durable a_newest a_verValue a_verThere a_verStamp a_verOlder a_fenwick a_open a_serial a_start a_readMask a_writeMask a_dirty a_writes a_writeKey a_writeValue a_writeThere a_writeBefore a_lastWrite a_saves a_saveAt a_trackNumber a_trackRead a_trackWrite a_trackIn a_trackOut a_logKey a_logValue a_logThere a_logStamp a_baseValue := by
        intro x2 hx hQ
        unfold wX_commit_28
        refine br_f hx ?_
        unfold wX_commit_153
        have TS := tk_same (s0 := st s) (rm := a_readMask s) (wm := ws_t K s (N s)) T1 T5 (Nat.le_refl C)
        have T5s : ∀ m, upd a_known (C + 1) 0 m ≠ 0 → 1 ≤ m ∧ m ≤ C ∧ un_u cs (C + 1) (st s) m < m := by
          intro m hm
          have e : m ≠ C + 1 := fun y => by rw [y, pk_us] at hm; exact hm rfl
          rw [pk_un e] at hm
          rw [un_n e]; exact T5 m hm
        refine xr_end (a_cStart := upd a_cStart (C + 1) (nI (st s))) ⟨G, C, D, T, H, st, K, N, SV, SA, hc, hq, un_u cs (C + 1) (st s), tn, t, cu, V, B, fc, n, q1', q2', q3', q4, q5, ⟨TS, T2, T3', T4', T5s⟩, q7⟩ hk hs (fun w' l' m' ft' tN' tR' tW' tI' tO' F' => hQ _ (zz_in (rl_up F')))
      have wmE : a_writeMask s = ws_t K s (N s) := wms
      refine xw_checkSerial hs T2 (by omega) a4 b3 b4 b1 b2 T1 (fun d => ?_) (fun d h8 => ?_) (fun d h8 tI' tO' e4 e5 e6 e7 => ?_)
      · refine fail 3 (by decide) (fun Q hQ => yw_commit hs ho a4 (by omega) (by omega) q4.1.1 n12 hcn K1 b3 b4 K3 b2 T3 T4 k0 (fun _ _ => ⟨rfl, hQ⟩) (fun _ y => absurd (by rw [← wmE]; exact dd.mpr d) y) (fun y => absurd (by rw [← wmE]; exact dd.mpr d) (y z).1))
      · refine fail 4 (by decide) (fun Q hQ => yw_commit hs ho a4 (by omega) (by omega) q4.1.1 n12 hcn K1 b3 b4 K3 b2 T3 T4 k0 (fun _ y => absurd (dd.mp (by rw [wmE]; exact y)) d) (fun _ _ _ => ⟨rfl, hQ⟩) (fun y => absurd (y z).2 (by omega)))
      · have TN := tk_new (x := a_serial s) (ft' := nI (t + 1)) (tI' := tI') (tO' := tO') T1 T5 P4 z rfl rfl rfl rfl e4 e5 e6 e7
        rw [wmE] at TN ⊢
        refine xr_28 (cS' := upd a_cStart (C + 1) (nI (st s))) hk q1' q2' q3' q4 q5 q7 TN (by omega) T3' T4' (T5' _) (fun m hm h => ?_) ?_ hs ?_
        · by_cases e : m = C + 1
          · exact Or.inr e
          · exact Or.inl (sub4 m ((sub m).mp h))
        · have e : cn_t (fun j => pb_p (upd a_known (C + 1) (a_serial s) j ≠ 0 ∧ li_v (upd a_open s 0) a_serial st 4 j)) (C + 1) = cn_t (fun j => pb_p (a_known j ≠ 0 ∧ li_v a_open a_serial st s j)) (C + 1) := by
            apply cn_c
            intro j hj
            apply pb_c
            rw [pk_un (show j ≠ C + 1 by omega), sub j]
          rw [cn_s, e]
          by_cases y : pb_p (upd a_known (C + 1) (a_serial s) (C + 1) ≠ 0 ∧ li_v (upd a_open s 0) a_serial st 4 (C + 1)) = true
          · rw [if_pos y]; omega
          · rw [if_neg y]; omega
        · intro p' fV' fC' ft' fl' bM' fd' nw' vv' vt' vs' od' fe' m' dty' w' l' tN' tR' tW' tI'' tO'' lK' lV' lT' lS' bV' e F'
          refine yw_commit hs ho a4 (by omega) (by omega) q4.1.1 n12 hcn K1 b3 b4 K3 b2 T3 T4 k0 (fun _ y => absurd (dd.mp (by rw [wmE]; exact y)) d) (fun _ _ y => absurd y (by omega)) (fun _ => ?_)
          have eD : nI (C + 1) - f_durable = nI (C + 1 - D) := by rw [a5]; exact pk_sub (by omega)
          rw [eD]
          refine pk_lt (C + 1 - D) G (fun q => ?_) (fun q => ?_) rfl a1
          · rcases e with ⟨e1, e2⟩ | ⟨e1, e2⟩
            · omega
            · subst e1; exact ⟨rfl, zz_in F'⟩
          · rcases e with ⟨e1, e2⟩ | ⟨e1, e2⟩
            · subst e1; exact ⟨rfl, zz_in F'⟩
            · omega
  · refine xw_idle_f c (br_f (by decide) ?_)
    unfold wpY_commit
    exact yw_isOpen_f c (br_t rfl ⟨rfl, I5⟩)
end
section
/-! crash -/
theorem cn_p {hc : Nat → Nat} {D : Nat} : ∀ H, (∀ i j, i ≤ j → j < H → hc i ≤ hc j) → ∀ i, i < H → (hc i ≤ D ↔ i < cn_t (fun i => decide (hc i ≤ D)) H)
  | 0, _, i, hi => absurd hi (by omega)
  | H + 1, hS, i, hi => by
    have ih := cn_p (D := D) H (fun i j a b => hS i j a (by omega))
    have le := cn_le (fun i => decide (hc i ≤ D)) H
    rw [cn_s]
    by_cases c : hc H ≤ D
    · have all : cn_t (fun i => decide (hc i ≤ D)) H = H := cn_all H (fun j hj => decide_eq_true (Nat.le_trans (hS j H (by omega) (by omega)) c))
      rw [if_pos (decide_eq_true c), all]
      exact ⟨fun _ => by omega, fun _ => Nat.le_trans (hS i H (by omega) (by omega)) c⟩
    · rw [if_neg (by rw [decide_eq_false c]; decide), Nat.add_zero]
      by_cases e : i = H
      · rw [e]; exact ⟨fun z => absurd z c, fun z => absurd z (by omega)⟩
      · exact ih i (by omega)
theorem af_cut {hc hq : Nat → Nat} {hv ht : Nat → Int32} {H D m k : Nat} (hS : ∀ i j, i ≤ j → j < H → hc i ≤ hc j) (hm : D ≤ m) : af_t hc hq hv ht m k (cn_t (fun i => decide (hc i ≤ D)) H) = af_t hc hq hv ht D k H := by
  have cp := cn_p (D := D) H hS
  have le := cn_le (fun i => decide (hc i ≤ D)) H
  generalize cn_t (fun i => decide (hc i ≤ D)) H = c at *
  obtain ⟨d, rfl⟩ : ∃ d, H = c + d := ⟨H - c, by omega⟩
  unfold af_t
  rw [la_x none (fun i => decide (hc i ≤ D) && decide (hq i = k)) (fun i => ov_l (ht i) (hv i)) c d]
  rw [la_0 d]
  · apply la_c rfl
    · intro i hi
      have := (cp i (by omega)).mpr hi
      rw [decide_eq_true (p := hc i ≤ m) (by omega), decide_eq_true (p := hc i ≤ D) this]
    · intro i hi _; rfl
  · intro i hi
    rw [decide_eq_false (p := hc (c + i) ≤ D) (fun z => by have := (cp (c + i) (by omega)).mp z; omega), Bool.false_and]
section
variable {f_group : Int32} {f_present : Int64} {f_freeVersion : Int32} {f_freeCount : Int32} {f_tracked : Int32} {f_logLength : Int32} {f_baseMask : Int64} {f_commits : Int32} {f_durable : Int32} {a_newest : Nat → Int32} {a_verValue : Nat → Int32} {a_verThere : Nat → Int32} {a_verStamp : Nat → Int32} {a_verOlder : Nat → Int32} {a_fenwick : Nat → Int64} {a_open : Nat → Int32} {a_serial : Nat → Int32} {a_start : Nat → Int32} {a_readMask : Nat → Int64} {a_writeMask : Nat → Int64} {a_dirty : Nat → Int64} {a_writes : Nat → Int32} {a_writeKey : Nat → Int32} {a_writeValue : Nat → Int32} {a_writeThere : Nat → Int32} {a_writeBefore : Nat → Int32} {a_lastWrite : Nat → Int32} {a_saves : Nat → Int32} {a_saveAt : Nat → Int32} {a_trackNumber : Nat → Int32} {a_trackRead : Nat → Int64} {a_trackWrite : Nat → Int64} {a_trackIn : Nat → Int32} {a_trackOut : Nat → Int32} {a_logKey : Nat → Int32} {a_logValue : Nat → Int32} {a_logThere : Nat → Int32} {a_logStamp : Nat → Int32} {a_baseValue : Nat → Int32} {f_history : Int32} {a_hCommit : Nat → Int32} {a_hKey : Nat → Int32} {a_hValue : Nat → Int32} {a_hThere : Nat → Int32} {a_cStart : Nat → Int32} {a_cRead : Nat → Int64} {a_cWrite : Nat → Int64} {a_known : Nat → Int32} {a_sCount : Nat → Int32} {y_saves : Nat → Int32} {k : Nat}
theorem xr_cr2 {post : Int32 → SX → Prop} (hk : k + 5 ≤ 2561) (hp : ∀ w' l' m' sv' op' ft' tN' tR' tW' tI' tO', rl_f k f_group f_present f_freeVersion f_freeCount ft' f_logLength f_baseMask f_commits f_durable a_newest a_verValue a_verThere a_verStamp a_verOlder a_fenwick op' a_serial a_start a_readMask m' a_dirty w' a_writeKey a_writeValue a_writeThere a_writeBefore l' sv' a_saveAt tN' tR' tW' tI' tO' a_logKey a_logValue a_logThere a_logStamp a_baseValue f_history a_hCommit a_hKey a_hValue a_hThere a_cStart a_cRead a_cWrite a_known a_sCount y_saves → op' = cp_y a_open 0 (fun _ => 0) 4 → wX_crash_2 post 1 4 f_group f_present f_freeVersion f_freeCount ft' f_logLength f_baseMask f_commits f_durable a_newest a_verValue a_verThere a_verStamp a_verOlder a_fenwick op' a_serial a_start a_readMask m' a_dirty w' a_writeKey a_writeValue a_writeThere a_writeBefore l' sv' a_saveAt tN' tR' tW' tI' tO' a_logKey a_logValue a_logThere a_logStamp a_baseValue) : ∀ d i w' l' m' sv' op' ft' tN' tR' tW' tI' tO', i + d = 4 → rl_f k f_group f_present f_freeVersion f_freeCount ft' f_logLength f_baseMask f_commits f_durable a_newest a_verValue a_verThere a_verStamp a_verOlder a_fenwick op' a_serial a_start a_readMask m' a_dirty w' a_writeKey a_writeValue a_writeThere a_writeBefore l' sv' a_saveAt tN' tR' tW' tI' tO' a_logKey a_logValue a_logThere a_logStamp a_baseValue f_history a_hCommit a_hKey a_hValue a_hThere a_cStart a_cRead a_cWrite a_known a_sCount y_saves → (∀ r, r < i → op' r = 0) → (∀ r, 4 ≤ r → op' r = a_open r) → wX_crash_2 post (d + 1) (nI i) f_group f_present f_freeVersion f_freeCount ft' f_logLength f_baseMask f_commits f_durable a_newest a_verValue a_verThere a_verStamp a_verOlder a_fenwick op' a_serial a_start a_readMask m' a_dirty w' a_writeKey a_writeValue a_writeThere a_writeBefore l' sv' a_saveAt tN' tR' tW' tI' tO' a_logKey a_logValue a_logThere a_logStamp a_baseValue := by
  intro d
  induction d with
  | zero =>
    intro i w' l' m' sv' op' ft' tN' tR' tW' tI' tO' hi F h1 h2
    obtain rfl : i = 4 := by omega
    refine hp w' l' m' sv' op' ft' tN' tR' tW' tI' tO' F ?_
    funext r
    by_cases c : r < 4
    · have g := cp_i (a := a_open) (H := 0) (v := fun _ => 0) (i := r) 4 c
      rw [Nat.zero_add] at g
      rw [h1 r c, g]
    · rw [h2 r (by omega), cp_o 4 (by omega)]
  | succ d ih =>
    intro i w' l' m' sv' op' ft' tN' tR' tW' tI' tO' hi F h1 h2
    have ro : op' (nI i).toNatClampNeg = op' i := rd_a (by omega)
    refine br_f (nI_ge (b := 4) (by omega) (by decide)) ⟨vp_in_nI (by omega) (by decide), br_c (fun z => nm_r (nI_1 i) (ih (i + 1) _ _ _ _ _ _ _ _ _ _ _ (by omega) F ?_ h2)) (fun z => ?_)⟩
    · intro r hr
      by_cases e : r = i
      · rw [e]; exact ro.symm.trans z
      · exact h1 r (by omega)
    · refine xr_end F hk (by omega) (fun w1 l1 m1 ft1 tN1 tR1 tW1 tI1 tO1 F1 => nm_r (nI_1 i) (ih (i + 1) _ _ _ _ _ _ _ _ _ _ _ (by omega) F1 ?_ ?_))
      · intro r hr
        by_cases e : r = i
        · rw [e, pk_us]
        · rw [pk_un e]; exact h1 r (by omega)
      · intro r hr
        rw [pk_un (by omega)]; exact h2 r hr
theorem xr_cr55 {post : Int32 → SX → Prop} {D : Nat} (hd : f_durable = nI D) (hD : D < 2 ^ 31) (hp : ∀ p fv fcI nw vv vt vs od fe dty cu V B fc, vs_t p fv fcI nw vv vt vs od fe cu V B fc → (∀ j, j < 64 → cu j = ba_s a_baseValue f_baseMask j) → (∀ j, j < 64 → B j ≤ D) → post f_commits (f_group, p, fv, fcI, f_tracked, f_logLength, f_baseMask, f_commits, f_durable, nw, vv, vt, vs, od, fe, a_open, a_serial, a_start, a_readMask, a_writeMask, dty, a_writes, a_writeKey, a_writeValue, a_writeThere, a_writeBefore, a_lastWrite, a_saves, a_saveAt, a_trackNumber, a_trackRead, a_trackWrite, a_trackIn, a_trackOut, a_logKey, a_logValue, a_logThere, a_logStamp, a_baseValue)) : ∀ d i f p fv fcI nw vv vt vs od fe dty cu V B fc, i + d = 64 → d < f → vs_t p fv fcI nw vv vt vs od fe cu V B fc → (∀ j, j < 64 → cu j = if j < i then ba_s a_baseValue f_baseMask j else none) → (∀ j, j < 64 → B j ≤ D) → 343 ≤ fc + i → wX_crash_55 post f (nI i) f_group p fv fcI f_tracked f_logLength f_baseMask f_commits f_durable nw vv vt vs od fe a_open a_serial a_start a_readMask a_writeMask dty a_writes a_writeKey a_writeValue a_writeThere a_writeBefore a_lastWrite a_saves a_saveAt a_trackNumber a_trackRead a_trackWrite a_trackIn a_trackOut a_logKey a_logValue a_logThere a_logStamp a_baseValue := by
  intro d
  induction d with
  | zero =>
    intro i f p fv fcI nw vv vt vs od fe dty cu V B fc hi hf S h1 h2 h3
    obtain ⟨f, rfl⟩ : ∃ q, f = q + 1 := ⟨f - 1, by omega⟩
    obtain rfl : i = 64 := by omega
    refine br_t (by decide) (hp p fv fcI nw vv vt vs od fe dty cu V B fc S (fun j hj => ?_) h2)
    rw [h1 j hj, if_pos hj]
  | succ d ih =>
    intro i f p fv fcI nw vv vt vs od fe dty cu V B fc hi hf S h1 h2 h3
    obtain ⟨f, rfl⟩ : ∃ q, f = q + 1 := ⟨f - 1, by omega⟩
    have hi6 : i < 64 := by omega
    refine br_f (nI_ge (b := 64) hi6 (by decide)) (xw_bit (br_c (fun z => nm_r (nI_1 i) (ih (i + 1) f _ _ _ _ _ _ _ _ _ _ cu V B fc (by omega) (by omega) S ?_ h2 (by omega))) (fun z => ⟨vp_in_nI hi6 (by decide), ?_⟩)))
    · intro j hj
      have b : ba_s a_baseValue f_baseMask i = none := by
        unfold ba_s
        rw [(mb_t0 hi6 _).mp z, if_neg (by decide)]
      rw [h1 j hj]
      by_cases c : j < i
      · rw [if_pos c, if_pos (c := j < i + 1) (by omega)]
      · rw [if_neg c]
        by_cases e : j = i
        · rw [if_pos (by omega), e, b]
        · rw [if_neg (by omega)]
    · have b : ba_s a_baseValue f_baseMask i = some (a_baseValue i) := by
        unfold ba_s
        rw [(mb_t1 hi6 _).mp z, if_pos rfl]
      rw [nI_clamp (by omega), hd]
      have o1 : ov_l 1 (a_baseValue i) = some (a_baseValue i) := ov_1 (by decide)
      refine xw_install S hi6 (Or.inr rfl) (by omega) hD (h2 i hi6) (fun p1 fv1 nw1 vv1 vt1 vs1 od1 fe1 S1 => nm_r (nI_1 i) ?_)
      rw [← hd]
      refine ih (i + 1) f _ _ _ _ _ _ _ _ _ _ _ _ _ _ (by omega) (by omega) S1 ?_ ?_ (by omega)
      · intro j hj
        by_cases e : j = i
        · rw [e, un_s, if_pos (by omega), b, o1]
        · rw [un_n e, h1 j hj]
          by_cases c : j < i
          · rw [if_pos c, if_pos (c := j < i + 1) (by omega)]
          · rw [if_neg c, if_neg (by omega)]
      · intro j hj
        by_cases e : j = i
        · rw [e, un_s]; exact Nat.le_refl _
        · rw [un_n e]; exact h2 j hj
/-- behind a crash -/
theorem rl_crash {G C D T H n1 : Nat} {st K N SV SA hc hq cs : Nat → Nat} {cu : Nat → Option Int32} {V : Nat → Nat → Option Int32} {B : Nat → Nat} {fc cb : Nat} {fl : Int32} (hk : k + 5 ≤ 2561) (hop : ∀ r, r < 4 → a_open r = 0) (a1 : f_group = nI G) (a2 : 2 ≤ G) (a3 : G ≤ 6) (a5 : f_durable = nI D) (a6 : D ≤ C) (a8 : 5 * T + 1 ≤ k) (a9 : C ≤ T) (a10 : H + N 0 + N 1 + N 2 + N 3 ≤ T) (q2 : qb_s C st N SV SA a_open a_serial a_start a_saves a_saveAt a_sCount y_saves) (q3 : qc_k K N a_writes a_writeKey a_writeThere a_writeBefore a_lastWrite a_writeMask) (q4 : qd_h C H hc hq f_history a_hCommit a_hKey) (S : vs_t f_present f_freeVersion f_freeCount a_newest a_verValue a_verThere a_verStamp a_verOlder a_fenwick cu V B fc) (hcu : ∀ j, j < 64 → cu j = ba_s a_baseValue f_baseMask j) (hB : ∀ j, j < 64 → B j ≤ D) (hba : ∀ j, j < 64 → ba_s a_baseValue f_baseMask j = af_t hc hq a_hValue a_hThere D j H) (T3 : ∀ j, a_cStart j = nI (cs j)) (T4 : ∀ j, cs j < 2 ^ 31) (T5 : ∀ m, a_known m ≠ 0 → 1 ≤ m ∧ m ≤ C ∧ cs m < m) (L : lo_i fl a_logKey a_logValue a_logThere a_logStamp a_baseValue f_baseMask D C (fun m k => af_t hc hq a_hValue a_hThere m k H) n1 cb) : rl_f (k + 5) f_group f_present f_freeVersion f_freeCount 0 0 f_baseMask f_durable f_durable a_newest a_verValue a_verThere a_verStamp a_verOlder a_fenwick a_open a_serial a_start a_readMask a_writeMask a_dirty a_writes a_writeKey a_writeValue a_writeThere a_writeBefore a_lastWrite a_saves a_saveAt a_trackNumber a_trackRead a_trackWrite a_trackIn a_trackOut a_logKey a_logValue a_logThere a_logStamp a_baseValue (nI (cn_t (fun i => decide (hc i ≤ D)) H)) a_hCommit a_hKey a_hValue a_hThere a_cStart a_cRead a_cWrite (cp_y a_known 1 (fun _ => 0) C) a_sCount y_saves := by
  obtain ⟨b1, b2, b3, b4, b5, b6, b7, b8, b9, b10, b11, b12, b13⟩ := q2
  obtain ⟨⟨g1, g2, g3⟩, g4, g5⟩ := q4
  obtain ⟨lk, ls, h1, h2, h3, h4, h5, h6, h7, h8, h9, h10⟩ := L
  have cp := cn_p (D := D) H g5
  have le := cn_le (fun i => decide (hc i ≤ D)) H
  have cut : ∀ m j, D ≤ m → af_t hc hq a_hValue a_hThere m j (cn_t (fun i => decide (hc i ≤ D)) H) = af_t hc hq a_hValue a_hThere D j H := fun m j hm => af_cut g5 hm
  have kz : ∀ m, cp_y a_known 1 (fun _ => 0) C m = 0 := by
    intro m
    by_cases c : 1 ≤ m ∧ m ≤ C
    · obtain ⟨i, rfl⟩ : ∃ i, m = 1 + i := ⟨m - 1, by omega⟩
      exact cp_i C (by omega)
    · rw [cp_o C (by omega)]
      apply Decidable.byContradiction
      intro z
      have := T5 m z
      omega
  refine ⟨G, D, D, T, cn_t (fun i => decide (hc i ≤ D)) H, st, K, N, SV, SA, hc, hq, cs, fun _ => 0, 0, cu, V, B, fc, 0, ⟨a1, a2, a3, a5, a5, Nat.le_refl _, by omega, by omega, by omega, by omega⟩, ⟨b1, b2, b3, b4, fun r hr h => absurd (hop r hr) h, b6, b7, b8, b9, b10, b11, b12, b13⟩, q3, ⟨⟨rfl, by omega, g3⟩, ?_, ?_⟩, ⟨S, ?_, hB, fun r hr h => absurd (hop r hr) h, fun r hr h => absurd (hop r hr) h⟩, ⟨⟨rfl, fun _ h => absurd h (by omega), fun _ _ _ h => absurd h (by omega), fun _ h => absurd h (by omega), fun m h => absurd (kz m) h, fun _ h => absurd h (by omega)⟩, by omega, T3, T4, fun m h => absurd (kz m) h⟩, ⟨⟨lk, ls, rfl, h2, h3, h4, h5, h6, fun _ _ _ h => absurd h (by omega), fun _ h => absurd h (by omega), Nat.zero_le _, ?_⟩, by omega⟩⟩
  · intro i hi; exact (cp i (by omega)).mpr hi
  · intro i j a b; exact g5 i j a (by omega)
  · intro j hj; rw [hcu j hj, hba j hj]; exact (cut D j (Nat.le_refl _)).symm
  · intro m hm j hj
    show ba_s a_baseValue f_baseMask j = _
    rw [hba j hj]; exact (cut m j hm).symm
end
theorem i_vc_crash {k : Nat} {u : SX} {v : SY} (I : i_Rel k u v) (hk : k + 5 ≤ 2561) : wpX_crash (fun r u' => wpY_crash (fun r' v' => r' = r ∧ i_Rel (k + 5) u' v') v) u := by
  refine zz_el (P := fun u v => wpX_crash (fun r u' => wpY_crash (fun r' v' => r' = r ∧ i_Rel (k + 5) u' v') v) u) I ?_
  intro f_group f_present f_freeVersion f_freeCount f_tracked f_logLength f_baseMask f_commits f_durable a_newest a_verValue a_verThere a_verStamp a_verOlder a_fenwick a_open a_serial a_start a_readMask a_writeMask a_dirty a_writes a_writeKey a_writeValue a_writeThere a_writeBefore a_lastWrite a_saves a_saveAt a_trackNumber a_trackRead a_trackWrite a_trackIn a_trackOut a_logKey a_logValue a_logThere a_logStamp a_baseValue f_history a_hCommit a_hKey a_hValue a_hThere a_cStart a_cRead a_cWrite a_known a_sCount y_saves F
  unfold wpX_crash
  refine ⟨5, xr_cr2 hk ?_ 4 0 a_writes a_lastWrite a_writeMask a_saves a_open f_tracked a_trackNumber a_trackRead a_trackWrite a_trackIn a_trackOut (by omega) F (fun r hr => absurd hr (by omega)) (fun r _ => rfl)⟩
  intro w' l' m' sv' op' ft' tN' tR' tW' tI' tO' F1 hop
  have hop4 : ∀ r, r < 4 → op' r = 0 := by
    intro r hr
    have g := cp_i (a := a_open) (H := 0) (v := fun _ => 0) (i := r) 4 hr
    rw [Nat.zero_add] at g
    rw [hop, g]
  obtain ⟨G, C, D, T, H, st, K, N, SV, SA, hc, hq, cs, tn, t, cu, V, B, fc, n, q1, q2, q3, q4, q5, q6, q7⟩ := F1
  obtain ⟨a1, a2, a3, a4, a5, a6, a7, a8, a9, a10⟩ := q1
  obtain ⟨S, S2, S3, S4, S5⟩ := q5
  obtain ⟨T1, T2, T3, T4, T5⟩ := q6
  refine br_t (by decide) (xw_checkpoint a5 (by omega) (by have := q7.2; omega) q7.1 (fun lK1 lV1 lT1 lS1 bV1 bM1 n1 L1 hn1 hb1 => ?_))
  obtain ⟨nw, od, vs, fv, LL, h1, h2, h3, h4, h5, h6, h7, h8, h9, h10, h11, h12, h13⟩ := S
  refine xw_clear h1 h2 h3 h4 (fun fV nw' ao fe S' => ⟨65, ?_⟩)
  refine xr_cr55 a5 (by omega) ?_ 64 0 65 _ _ _ _ _ _ _ _ _ _ _ _ _ _ (by omega) (by omega) S' (fun j hj => by rw [if_neg (by omega)]) (fun j hj => Nat.zero_le _) (by omega)
  intro p2 fv2 fcI2 nw2 vv2 vt2 vs2 od2 fe2 dty2 cu2 V2 B2 fc2 S2' e1 e2
  refine yw_crash q4.1 a4 (by omega) a5 (by omega) ⟨rfl, ?_⟩
  rw [← hop]
  exact zz_in (rl_crash hk hop4 a1 a2 a3 a5 a6 a8 a9 a10 q2 q3 q4 S2' e1 e2 hb1 T3 T4 T5 L1)
end
