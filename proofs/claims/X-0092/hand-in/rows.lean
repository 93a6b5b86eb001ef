section
/-! pure rows to paste: stores, nI and lN arithmetic, masks, shifts, narrowing, branches by naturals (pk_le, pk_lt, pk_eq), loops (lp1 .. lp16: the measure of the state; rp1 ..: recursion), negatives. Take what you need -/
theorem pk_us {f : Nat → Int32} {k : Nat} {x : Int32} : upd f k x k = x := if_pos rfl
theorem pk_un {f : Nat → Int32} {k j : Nat} {x : Int32} (h : j ≠ k) : upd f k x j = f j := if_neg h
theorem pk_uLs {f : Nat → Int64} {k : Nat} {x : Int64} : vp_updL f k x k = x := if_pos rfl
theorem pk_uLn {f : Nat → Int64} {k j : Nat} {x : Int64} (h : j ≠ k) : vp_updL f k x j = f j := if_neg h
theorem pk_sub {a b : Nat} (h : b ≤ a) : nI a - nI b = nI (a - b) := by
  obtain ⟨c, rfl⟩ : ∃ c, a = c + b := ⟨a - b, by omega⟩
  rw [← nI_add, Int32.add_sub_cancel, Nat.add_sub_cancel]
theorem pk_m1 (n : Nat) : nI (n + 1) + (-1) = nI n := by
  rw [← nI_1, Int32.add_assoc, show (1 : Int32) + (-1) = 0 from rfl, Int32.add_zero]
theorem pk_mul (a b : Nat) : nI a * nI b = nI (a * b) := (Int32.ofNat_mul a b).symm
theorem pk_div {a d : Nat} (ha : a < 2 ^ 31) (h0 : 0 < d) (hd : d < 2 ^ 31) : nI a / nI d = nI (a / d) := by
  apply Int32.toInt_inj.mp
  rw [lg_idiv_nonneg (by rw [nI_toInt ha]; omega) (by rw [nI_toInt hd]; omega), nI_toInt ha, nI_toInt hd, nI_toInt (Nat.lt_of_le_of_lt (Nat.div_le_self a d) ha)]
  first | rfl | exact (Int.natCast_ediv _ _).symm
theorem pk_rem {a d : Nat} (ha : a < 2 ^ 31) (h0 : 0 < d) (hd : d < 2 ^ 31) : nI a - nI a / nI d * nI d = nI (a % d) := by
  rw [pk_div ha h0 hd, pk_mul, pk_sub (Nat.div_mul_le_self a d)]
  exact congrArg nI (by have := Nat.div_add_mod' a d; omega)
theorem pk_sub_toInt {a b : Nat} (ha : a < 2 ^ 30) (hb : b < 2 ^ 30) : (nI a - nI b).toInt = (a : Int) - b := by
  rw [Int32.toInt_sub, nI_toInt (by omega), nI_toInt (by omega)]
  exact Int.bmod_eq_of_le (by omega) (by omega)
theorem pk_sneg {a b : Nat} (hb : b < 2 ^ 30) (h : a < b) : nI a - nI b < 0 := by
  rw [Int32.lt_iff_toInt_lt, pk_sub_toInt (by omega) hb, show (0 : Int32).toInt = 0 from by decide]
  omega
theorem pk_ix (x : Int32) {n : Nat} (hn : n < 2 ^ 31) : x < 0 ∨ nI n ≤ x ∨ ∃ j : Nat, j < n ∧ x = nI j := by
  by_cases h : x < 0
  · exact Or.inl h
  · obtain ⟨j, hj, rfl⟩ := nI_of h
    by_cases h2 : j < n
    · exact Or.inr (Or.inr ⟨j, h2, rfl⟩)
    · exact Or.inr (Or.inl (nI_le (by omega) hj))
theorem pk_le {x y : Int32} {A B : Prop} (a b : Nat) (f : a ≤ b → A) (g : b < a → B) (hx : x = nI a := by rfl) (hy : y = nI b := by rfl) (ha : a < 2 ^ 31 := by omega) (hb : b < 2 ^ 31 := by omega) : (x ≤ y → A) ∧ (¬ x ≤ y → B) := by
  subst hx hy
  rw [nI_leI ha hb]
  exact ⟨f, fun z => g (by omega)⟩
theorem pk_lt {x y : Int32} {A B : Prop} (a b : Nat) (f : a < b → A) (g : b ≤ a → B) (hx : x = nI a := by rfl) (hy : y = nI b := by rfl) (ha : a < 2 ^ 31 := by omega) (hb : b < 2 ^ 31 := by omega) : (x < y → A) ∧ (¬ x < y → B) := by
  subst hx hy
  rw [nI_ltI ha hb]
  exact ⟨f, fun z => g (by omega)⟩
theorem pk_eq {x y : Int32} {A B : Prop} (a b : Nat) (f : a = b → A) (g : a ≠ b → B) (hx : x = nI a := by rfl) (hy : y = nI b := by rfl) (ha : a < 2 ^ 31 := by omega) (hb : b < 2 ^ 31 := by omega) : (x = y → A) ∧ (¬ x = y → B) := by
  subst hx hy
  rw [nI_eq ha hb]
  exact ⟨f, g⟩
theorem pk_in {x : Int32} (n N : Nat) (h : n < N) (hx : x = nI n := by rfl) (hN : N < 2 ^ 31 := by omega) : vp_in x N := by
  subst hx
  exact vp_in_nI h hN
theorem pk_cl {x : Int32} (n : Nat) (hx : x = nI n := by rfl) (h : n < 2 ^ 31 := by omega) : x.toNatClampNeg = n := by
  subst hx
  exact nI_clamp h
theorem pk_tn {n : Nat} (h : n < 2 ^ 32) : (nI n).toBitVec.toNat = n := Nat.mod_eq_of_lt h
theorem pk_and (x : Int32) {m : Int32} (k : Nat) (hm : m.toBitVec.toNat = 2 ^ k - 1) : x &&& m = nI (x.toBitVec.toNat % 2 ^ k) := by
  apply Int32.toBitVec_inj.mp
  apply BitVec.eq_of_toNat_eq
  rw [Int32.toBitVec_and, BitVec.toNat_and, hm, Nat.and_two_pow_sub_one_eq_mod]
  show _ = (BitVec.ofNat 32 _).toNat
  rw [BitVec.toNat_ofNat]
  exact (Nat.mod_eq_of_lt (Nat.lt_of_le_of_lt (Nat.mod_le _ _) x.toBitVec.isLt)).symm
theorem pk_andN {n : Nat} (h : n < 2 ^ 32) {m : Int32} (k : Nat) (hm : m.toBitVec.toNat = 2 ^ k - 1) : nI n &&& m = nI (n % 2 ^ k) := by
  rw [pk_and _ k hm, pk_tn h]
theorem pk_andE (x : Int32) {m : Int32} (k : Nat) (hm : m.toBitVec.toNat = 2 ^ k - 1) : ∃ j : Nat, j < 2 ^ k ∧ x &&& m = nI j := ⟨_, Nat.mod_lt _ (Nat.two_pow_pos k), pk_and x k hm⟩
theorem pk_andIn (x : Int32) {m : Int32} (k : Nat) (hm : m.toBitVec.toNat = 2 ^ k - 1) (hk : k ≤ 30) : vp_in (x &&& m) (2 ^ k) := by
  obtain ⟨j, hj, e⟩ := pk_andE x k hm
  rw [e]
  exact vp_in_nI hj (Nat.lt_of_le_of_lt (Nat.pow_le_pow_right (by decide) hk) (by decide))
theorem pk_shl (a s : Int32) (k : Nat) (hs : (s.toBitVec.smod 32).toNat = k) : (a <<< s).toBitVec.toNat = a.toBitVec.toNat * 2 ^ k % 2 ^ 32 := by
  show (a.toBitVec <<< (s.toBitVec.smod 32).toNat).toNat = _
  rw [hs, BitVec.toNat_shiftLeft, Nat.shiftLeft_eq]
theorem pk_shlN {n : Nat} (s : Int32) (k : Nat) (hs : (s.toBitVec.smod 32).toNat = k) (h : n * 2 ^ k < 2 ^ 32) : nI n <<< s = nI (n * 2 ^ k) := by
  apply Int32.toBitVec_inj.mp
  apply BitVec.eq_of_toNat_eq
  have hn : n < 2 ^ 32 := Nat.lt_of_le_of_lt (Nat.le_mul_of_pos_right n (Nat.two_pow_pos k)) h
  rw [pk_shl _ _ k hs, pk_tn hn, pk_tn h, Nat.mod_eq_of_lt h]
theorem pk_shr (a s : Int32) (k : Nat) (hs : (s.toBitVec.smod 32).toNat = k) : (a >>> s).toInt = a.toInt >>> k := by
  show (a.toBitVec.sshiftRight (s.toBitVec.smod 32).toNat).toInt = _
  rw [hs, BitVec.toInt_sshiftRight]
  rfl
theorem pk_shrN {n : Nat} (h : n < 2 ^ 31) (s : Int32) (k : Nat) (hs : (s.toBitVec.smod 32).toNat = k) : nI n >>> s = nI (n / 2 ^ k) := by
  apply Int32.toInt_inj.mp
  have h2 : n / 2 ^ k ≤ n := Nat.div_le_self _ _
  rw [pk_shr _ _ k hs, nI_toInt h, nI_toInt (by omega), Int.shiftRight_eq_div_pow]
  rfl
theorem pk_ushr (x s : Int32) (k : Nat) (hs : ((s.toUInt32 &&& Int32.toUInt32 31).toBitVec % 32).toNat = k) : (x.toUInt32 >>> (s.toUInt32 &&& Int32.toUInt32 31)).toInt32.toBitVec.toNat = x.toBitVec.toNat / 2 ^ k := by
  have e : (x.toUInt32 >>> (s.toUInt32 &&& Int32.toUInt32 31)).toInt32.toBitVec = x.toBitVec >>> k := by
    rw [← hs]
    exact UInt32.toBitVec_shiftRight _ _
  rw [e, BitVec.toNat_ushiftRight, Nat.shiftRight_eq_div_pow]
theorem pk_ushrN {n : Nat} (hn : n < 2 ^ 32) (s : Int32) (k : Nat) (hs : ((s.toUInt32 &&& Int32.toUInt32 31).toBitVec % 32).toNat = k) : ((nI n).toUInt32 >>> (s.toUInt32 &&& Int32.toUInt32 31)).toInt32 = nI (n / 2 ^ k) := by
  apply Int32.toBitVec_inj.mp
  apply BitVec.eq_of_toNat_eq
  rw [pk_ushr _ s k hs, pk_tn hn, pk_tn (Nat.lt_of_le_of_lt (Nat.div_le_self _ _) hn)]
theorem pk_lT {n : Nat} (h : n < 2 ^ 63) : (lN n).toInt = (n : Int) := lg_ofNat_toInt h
theorem pk_lLT {a b : Nat} (ha : a < 2 ^ 63) (hb : b < 2 ^ 63) : lN a < lN b ↔ a < b := by
  rw [Int64.lt_iff_toInt_lt, pk_lT ha, pk_lT hb]; omega
theorem pk_lLE {a b : Nat} (ha : a < 2 ^ 63) (hb : b < 2 ^ 63) : lN a ≤ lN b ↔ a ≤ b := by
  rw [Int64.le_iff_toInt_le, pk_lT ha, pk_lT hb]; omega
theorem pk_lEQ {a b : Nat} (ha : a < 2 ^ 63) (hb : b < 2 ^ 63) : lN a = lN b ↔ a = b := by
  rw [← Int64.toInt_inj, pk_lT ha, pk_lT hb]; omega
theorem pk_lOf {x : Int64} (h : ¬ x < 0) : ∃ k : Nat, k < 2 ^ 63 ∧ x = lN k := by
  rw [Int64.lt_iff_toInt_lt] at h
  have h0 : (0 : Int64).toInt = 0 := by decide
  have hx := Int64.toInt_lt x
  refine ⟨x.toInt.toNat, by omega, Int64.toInt_inj.mp ?_⟩
  rw [pk_lT (by omega)]
  omega
theorem pk_lDiv {a b : Nat} (ha : a < 2 ^ 63) (h0 : 0 < b) (hb : b < 2 ^ 63) : lN a / lN b = lN (a / b) := by
  apply Int64.toInt_inj.mp
  rw [lg_ldiv_nonneg (by rw [pk_lT ha]; omega) (by rw [pk_lT hb]; omega), pk_lT ha, pk_lT hb, pk_lT (Nat.lt_of_le_of_lt (Nat.div_le_self a b) ha)]
  rfl
theorem pk_lRem {a b : Nat} (ha : a < 2 ^ 63) (h0 : 0 < b) (hb : b < 2 ^ 63) : lN a - lN a / lN b * lN b = lN (a % b) := by
  rw [pk_lDiv ha h0 hb, lN_mul, lN_sub (Nat.div_mul_le_self a b)]
  exact congrArg lN (by have := Nat.div_add_mod' a b; omega)
/-! ===== Int32 by its bits: bt x i ===== -/
def bt (x : Int32) (i : Nat) : Bool := x.toBitVec.getLsbD i
theorem b_ext {x y : Int32} (h : ∀ i, i < 32 → bt x i = bt y i) : x = y := Int32.toBitVec_inj.mp (BitVec.eq_of_getLsbD_eq (fun i hi => h i hi))
theorem b_or (x y : Int32) (i : Nat) : bt (x ||| y) i = (bt x i || bt y i) := by unfold bt; rw [Int32.toBitVec_or, BitVec.getLsbD_or]
theorem b_and (x y : Int32) (i : Nat) : bt (x &&& y) i = (bt x i && bt y i) := by unfold bt; rw [Int32.toBitVec_and, BitVec.getLsbD_and]
theorem b_xor (x y : Int32) (i : Nat) : bt (x ^^^ y) i = (bt x i ^^ bt y i) := by unfold bt; rw [Int32.toBitVec_xor, BitVec.getLsbD_xor]
theorem b_big {x : Int32} {i : Nat} (h : 32 ≤ i) : bt x i = false := BitVec.getLsbD_of_ge _ _ h
theorem b_255 (i : Nat) : bt 255 i = decide (i < 8) := by
  rcases Nat.lt_or_ge i 32 with h | h
  · exact (by decide +kernel : ∀ i, i < 32 → bt 255 i = decide (i < 8)) i h
  · rw [b_big h, decide_eq_false (by omega)]
theorem b_65535 (i : Nat) : bt 65535 i = decide (i < 16) := by
  rcases Nat.lt_or_ge i 32 with h | h
  · exact (by decide +kernel : ∀ i, i < 32 → bt 65535 i = decide (i < 16)) i h
  · rw [b_big h, decide_eq_false (by omega)]
theorem b_m1 : ∀ i, i < 32 → bt (-1) i = true := by decide +kernel
theorem b_0 (i : Nat) : bt 0 i = false := BitVec.getLsbD_zero
theorem s_l : ∀ n, n < 32 → ((nI n &&& 31).toBitVec.smod 32).toNat = n := by decide +kernel
theorem s_u : ∀ n, n < 32 → (((nI n).toUInt32 &&& Int32.toUInt32 31).toBitVec % 32).toNat = n := by decide +kernel
theorem b_shl (n : Nat) (hn : n < 32) (x : Int32) {i : Nat} (hi : i < 32) : bt (x <<< (nI n &&& 31)) i = (decide (n ≤ i) && bt x (i - n)) := by
  unfold bt
  rw [Int32.toBitVec_shiftLeft]
  show (x.toBitVec <<< ((nI n &&& 31).toBitVec.smod 32).toNat).getLsbD i = _
  rw [s_l n hn, BitVec.getLsbD_shiftLeft]
  rcases Nat.lt_or_ge i n with h | h
  · simp [h, Nat.not_le.mpr h]
  · simp [hi, h, Nat.not_lt.mpr h]
theorem b_ushr (n : Nat) (hn : n < 32) (x : Int32) (i : Nat) : bt ((x.toUInt32 >>> ((nI n).toUInt32 &&& Int32.toUInt32 31)).toInt32) i = bt x (n + i) := by
  show (x.toUInt32 >>> ((nI n).toUInt32 &&& Int32.toUInt32 31)).toBitVec.getLsbD i = x.toUInt32.toBitVec.getLsbD (n + i)
  rw [UInt32.toBitVec_shiftRight]
  show (x.toUInt32.toBitVec >>> (((nI n).toUInt32 &&& Int32.toUInt32 31).toBitVec % 32).toNat).getLsbD i = _
  rw [s_u n hn, BitVec.getLsbD_ushiftRight]
theorem b_sshr (n : Nat) (hn : n < 32) (x : Int32) {i : Nat} (hi : i < 32) : bt (x >>> (nI n &&& 31)) i = if n + i < 32 then bt x (n + i) else bt x 31 := by
  unfold bt
  rw [Int32.toBitVec_shiftRight]
  show (x.toBitVec.sshiftRight ((nI n &&& 31).toBitVec.smod 32).toNat).getLsbD i = _
  rw [s_l n hn, BitVec.getLsbD_sshiftRight, BitVec.msb_eq_getLsbD_last]
  simp [hi]
theorem b_shl8 (x : Int32) {i : Nat} (hi : i < 32) : bt (x <<< ((8 : Int32) &&& 31)) i = (decide (8 ≤ i) && bt x (i - 8)) := b_shl 8 (by omega) x hi
theorem b_shl16 (x : Int32) {i : Nat} (hi : i < 32) : bt (x <<< ((16 : Int32) &&& 31)) i = (decide (16 ≤ i) && bt x (i - 16)) := b_shl 16 (by omega) x hi
theorem b_shl24 (x : Int32) {i : Nat} (hi : i < 32) : bt (x <<< ((24 : Int32) &&& 31)) i = (decide (24 ≤ i) && bt x (i - 24)) := b_shl 24 (by omega) x hi
theorem b_sshr8 (x : Int32) {i : Nat} (hi : i < 32) : bt (x >>> ((8 : Int32) &&& 31)) i = if 8 + i < 32 then bt x (8 + i) else bt x 31 := b_sshr 8 (by omega) x hi
/-! ===== lN n to 2^64: shifts, and, or, masks, one bit ===== -/
theorem wb_tb (n : Nat) : (lN n).toBitVec = BitVec.ofNat 64 n := rfl
theorem wb_inj {a b : Int64} (h : a.toBitVec = b.toBitVec) : a = b := Int64.toBitVec_inj.mp h
theorem wb_tn {n : Nat} (h : n < 2 ^ 64) : (lN n).toBitVec.toNat = n := by rw [wb_tb, BitVec.toNat_ofNat, Nat.mod_eq_of_lt h]
theorem wb_of (x : Int64) : ∃ n, n < 2 ^ 64 ∧ x = lN n := ⟨x.toBitVec.toNat, x.toBitVec.isLt, wb_inj (by rw [wb_tb]; simp)⟩
theorem wb_of32 (x : Int32) : ∃ n, n < 2 ^ 32 ∧ x = nI n := ⟨x.toBitVec.toNat, x.toBitVec.isLt, Int32.toBitVec_inj.mp (by show _ = BitVec.ofNat 32 _; simp)⟩
theorem wb_c : ∀ k, k < 64 → ((nI k).toInt64 &&& 63) = lN k := by decide +kernel
theorem wb_cu : ∀ k, k < 64 → ((nI k).toInt64.toUInt64 &&& Int64.toUInt64 63) = UInt64.ofNat k := by decide +kernel
theorem wb_sm : ∀ k, k < 64 → (BitVec.ofNat 64 k).smod 64 = BitVec.ofNat 64 k := by decide +kernel
theorem wb_pw {a b : Nat} (h : a ≤ b) : 2 ^ b = 2 ^ a * 2 ^ (b - a) := by rw [← Nat.pow_add]; congr 1; omega
theorem wb_lt2 {a b : Nat} (h : a < b) : 2 ^ a < 2 ^ b := Nat.pow_lt_pow_right (by decide) h
theorem wb_mod (n : Nat) : lN n = lN (n % 2 ^ 64) := wb_inj (by rw [wb_tb, wb_tb]; apply BitVec.eq_of_toNat_eq; rw [BitVec.toNat_ofNat, BitVec.toNat_ofNat, Nat.mod_mod])
theorem wb_shr {n k : Nat} (hn : n < 2 ^ 64) (hk : k < 64) : ((lN n).toUInt64 >>> ((nI k).toInt64.toUInt64 &&& Int64.toUInt64 63)).toInt64 = lN (n / 2 ^ k) := by
  rw [wb_cu k hk]
  apply wb_inj
  apply BitVec.eq_of_toNat_eq
  show ((lN n).toUInt64 >>> UInt64.ofNat k).toNat = (BitVec.ofNat 64 _).toNat
  have h1 : (UInt64.ofNat k).toNat = k := by
    show (BitVec.ofNat 64 k).toNat = k
    rw [BitVec.toNat_ofNat, Nat.mod_eq_of_lt (by omega)]
  have h2 : (lN n).toUInt64.toNat = n := wb_tn hn
  rw [UInt64.toNat_shiftRight, h1, h2, Nat.mod_eq_of_lt hk, Nat.shiftRight_eq_div_pow, BitVec.toNat_ofNat, Nat.mod_eq_of_lt (Nat.lt_of_le_of_lt (Nat.div_le_self _ _) hn)]
theorem wb_shl (n : Nat) {k : Nat} (hk : k < 64) : lN n <<< ((nI k).toInt64 &&& 63) = lN (n * 2 ^ k) := by
  rw [wb_c k hk]
  apply wb_inj
  rw [Int64.toBitVec_shiftLeft, wb_tb, wb_tb, wb_tb, wb_sm k hk]
  apply BitVec.eq_of_toNat_eq
  rw [BitVec.shiftLeft_eq', BitVec.toNat_shiftLeft, BitVec.toNat_ofNat, BitVec.toNat_ofNat, BitVec.toNat_ofNat, Nat.mod_eq_of_lt (show k < 2 ^ 64 by omega), Nat.shiftLeft_eq, Nat.mul_mod, Nat.mod_mod, ← Nat.mul_mod]
theorem wb_and {a b : Nat} (ha : a < 2 ^ 64) (hb : b < 2 ^ 64) : lN a &&& lN b = lN (a &&& b) := by
  apply wb_inj
  rw [Int64.toBitVec_and, wb_tb, wb_tb, wb_tb]
  apply BitVec.eq_of_toNat_eq
  rw [BitVec.toNat_and, BitVec.toNat_ofNat, BitVec.toNat_ofNat, BitVec.toNat_ofNat, Nat.mod_eq_of_lt ha, Nat.mod_eq_of_lt hb, Nat.mod_eq_of_lt (Nat.and_lt_two_pow _ hb)]
theorem wb_or {a b : Nat} (ha : a < 2 ^ 64) (hb : b < 2 ^ 64) : lN a ||| lN b = lN (a ||| b) := by
  apply wb_inj
  rw [Int64.toBitVec_or, wb_tb, wb_tb, wb_tb]
  apply BitVec.eq_of_toNat_eq
  rw [BitVec.toNat_or, BitVec.toNat_ofNat, BitVec.toNat_ofNat, BitVec.toNat_ofNat, Nat.mod_eq_of_lt ha, Nat.mod_eq_of_lt hb, Nat.mod_eq_of_lt (Nat.or_lt_two_pow ha hb)]
theorem wb_mask {n k : Nat} (hn : n < 2 ^ 64) (hk : k < 64) : lN n &&& lN (2 ^ k - 1) = lN (n % 2 ^ k) := by
  rw [wb_and hn (by have := wb_lt2 hk; omega), Nat.and_two_pow_sub_one_eq_mod]
theorem wb_a1 {n : Nat} (hn : n < 2 ^ 64) : lN n &&& 1 = lN (n % 2) := wb_mask (k := 1) hn (by decide)
theorem wb_bit {n k : Nat} (hn : n < 2 ^ 64) (hk : k < 64) : ((lN n).toUInt64 >>> ((nI k).toInt64.toUInt64 &&& Int64.toUInt64 63)).toInt64 &&& 1 = lN (n / 2 ^ k % 2) := by
  rw [wb_shr hn hk, wb_a1 (Nat.lt_of_le_of_lt (Nat.div_le_self _ _) hn)]
theorem wb_xor {q k : Nat} (hk : k < 63) (h : 2 ^ k ≤ q) (h2 : q < 2 ^ (k + 1)) : lN q ^^^ lN (2 ^ k) = lN (q - 2 ^ k) := by
  obtain ⟨r, rfl⟩ : ∃ r, q = 2 ^ k + r := ⟨q - 2 ^ k, by omega⟩
  have hr : r < 2 ^ k := by rw [Nat.pow_succ] at h2; omega
  have hx : (2 ^ k + r) ^^^ 2 ^ k = r := by
    apply Nat.eq_of_testBit_eq
    intro i
    rw [Nat.testBit_xor, Nat.testBit_two_pow]
    rcases Nat.lt_trichotomy i k with h | h | h
    · rw [Nat.testBit_two_pow_add_gt h]
      simp [show ¬ k = i by omega]
    · subst h
      rw [Nat.testBit_two_pow_add_eq]
      simp
    · have a1 : 2 ^ (k + 1) ≤ 2 ^ i := Nat.pow_le_pow_right (by decide) h
      rw [Nat.testBit_lt_two_pow (show 2 ^ k + r < 2 ^ i by omega), Nat.testBit_lt_two_pow (show r < 2 ^ i by omega)]
      simp [show ¬ k = i by omega]
  have b1 := wb_lt2 (show k + 1 < 64 by omega)
  have b2 := wb_lt2 (show k < 64 by omega)
  apply wb_inj
  rw [Int64.toBitVec_xor, wb_tb, wb_tb, wb_tb]
  apply BitVec.eq_of_toNat_eq
  rw [BitVec.toNat_xor, BitVec.toNat_ofNat, BitVec.toNat_ofNat, BitVec.toNat_ofNat, Nat.mod_eq_of_lt (by omega : 2 ^ k + r < 2 ^ 64), Nat.mod_eq_of_lt b2, hx, Nat.add_sub_cancel_left, Nat.mod_eq_of_lt (by omega)]
end
section
/-! own rows: options as ints, point updates, counts, bit sets -/
def pc_o : Option Nat → Int32
  | none => -1
  | some n => nI n
def pc_u {α : Type} (f : Nat → α) (k : Nat) (v : α) : Nat → α := fun j => if j = k then v else f j
theorem pc_us {α : Type} {f : Nat → α} {k : Nat} {v : α} : pc_u f k v k = v := if_pos rfl
theorem pc_un {α : Type} {f : Nat → α} {k j : Nat} {v : α} (h : j ≠ k) : pc_u f k v j = f j := if_neg h
theorem pc_u_self {α : Type} {f : Nat → α} {k : Nat} {v : α} (h : f k = v) : pc_u f k v = f := by
  funext j
  by_cases e : j = k
  · rw [e, pc_us, h]
  · rw [pc_un e]
theorem pc_uu {α : Type} {f : Nat → α} {k : Nat} {v w : α} : pc_u (pc_u f k v) k w = pc_u f k w := by
  funext j
  by_cases e : j = k
  · rw [e, pc_us, pc_us]
  · rw [pc_un e, pc_un e, pc_un e]
theorem pc_on : pc_o none < 0 := by decide
theorem pc_on' : ¬ 0 ≤ pc_o none := by decide
theorem pc_os {n : Nat} (h : n < 2 ^ 31) : ¬ pc_o (some n) < 0 := nI_pos h
theorem pc_os' {n : Nat} (h : n < 2 ^ 31) : 0 ≤ pc_o (some n) := nI_pos' h
theorem pc_oinj {a b : Option Nat} (ha : ∀ n, a = some n → n < 2 ^ 31) (hb : ∀ n, b = some n → n < 2 ^ 31) (h : pc_o a = pc_o b) : a = b := by
  cases a with
  | none => cases b with
    | none => rfl
    | some n => exact absurd (h ▸ pc_on) (pc_os (hb n rfl))
  | some m => cases b with
    | none => exact absurd (h.symm ▸ pc_on) (pc_os (ha m rfl))
    | some n => exact congrArg some ((nI_eq (ha m rfl) (hb n rfl)).mp h)
theorem pc_uI (f : Nat → Nat) (k v : Nat) : upd (fun j => nI (f j)) k (nI v) = fun j => nI (pc_u f k v j) := by
  funext j
  by_cases e : j = k
  · rw [e, pk_us, pc_us]
  · rw [pk_un e, pc_un e]
theorem pc_uO (f : Nat → Option Nat) (k : Nat) (v : Option Nat) : upd (fun j => pc_o (f j)) k (pc_o v) = fun j => pc_o (pc_u f k v j) := by
  funext j
  by_cases e : j = k
  · rw [e, pk_us, pc_us]
  · rw [pk_un e, pc_un e]
theorem pc_uL (f : Nat → Nat) (k v : Nat) : vp_updL (fun j => lN (f j)) k (lN v) = fun j => lN (pc_u f k v j) := by
  funext j
  by_cases e : j = k
  · rw [e, pk_uLs, pc_us]
  · rw [pk_uLn e, pc_un e]
theorem pc_cI {f : Nat → Nat} {k v : Nat} (h : k < 2 ^ 31) : upd (fun j => nI (f j)) (nI k).toNatClampNeg (nI v) = fun j => nI (pc_u f k v j) := by
  rw [nI_clamp h]; exact pc_uI f k v
theorem pc_cO {f : Nat → Option Nat} {k : Nat} {v : Option Nat} (h : k < 2 ^ 31) : upd (fun j => pc_o (f j)) (nI k).toNatClampNeg (pc_o v) = fun j => pc_o (pc_u f k v j) := by
  rw [nI_clamp h]; exact pc_uO f k v
theorem pc_cL {f : Nat → Nat} {k v : Nat} (h : k < 2 ^ 31) : vp_updL (fun j => lN (f j)) (nI k).toNatClampNeg (lN v) = fun j => lN (pc_u f k v j) := by
  rw [nI_clamp h]; exact pc_uL f k v
theorem pc_16 (m : Nat) : (16 : Int32) + nI m = nI (16 + m) := nI_add 16 m
theorem pc_32 (m : Nat) : (32 : Int32) + nI m = nI (32 + m) := nI_add 32 m
theorem pc_m16 (s t : Nat) : nI s * 16 + nI t = nI (16 * s + t) := by
  rw [show (16 : Int32) = nI 16 from rfl, pk_mul, nI_add, Nat.mul_comm s 16]
theorem pc_m32 (s t : Nat) : nI s * 32 + nI t = nI (32 * s + t) := by
  rw [show (32 : Int32) = nI 32 from rfl, pk_mul, nI_add, Nat.mul_comm s 32]
/-! counts -/
def pc_ct (p : Nat → Bool) : Nat → Nat
  | 0 => 0
  | n + 1 => pc_ct p n + (if p n = true then 1 else 0)
theorem pc_ct_c {p q : Nat → Bool} : ∀ {n : Nat}, (∀ i, i < n → p i = q i) → pc_ct p n = pc_ct q n
  | 0, _ => rfl
  | n + 1, h => by
    have ih := pc_ct_c (n := n) (fun i hi => h i (by omega))
    show pc_ct p n + _ = pc_ct q n + _
    rw [ih, h n (by omega)]
theorem pc_ct_le (p : Nat → Bool) : ∀ n, pc_ct p n ≤ n
  | 0 => Nat.le_refl 0
  | n + 1 => by
    have ih := pc_ct_le p n
    show pc_ct p n + _ ≤ n + 1
    split <;> omega
theorem pc_ct_0 {p : Nat → Bool} : ∀ {n : Nat}, (∀ i, i < n → p i = false) → pc_ct p n = 0
  | 0, _ => rfl
  | n + 1, h => by
    have ih := pc_ct_0 (n := n) (fun i hi => h i (by omega))
    show pc_ct p n + _ = 0
    rw [ih, h n (by omega)]
    rfl
theorem pc_ct_z {p : Nat → Bool} : ∀ {n : Nat}, pc_ct p n = 0 → ∀ i, i < n → p i = false
  | 0, _, i, hi => by omega
  | n + 1, h, i, hi => by
    have h' : pc_ct p n + (if p n = true then 1 else 0) = 0 := h
    rcases Nat.lt_or_ge i n with c | c
    · exact pc_ct_z (n := n) (by omega) i c
    · have e : i = n := by omega
      subst e
      cases hp : p i
      · rfl
      · rw [hp, if_pos rfl] at h'; omega
theorem pc_ct_f {p q : Nat → Bool} {k : Nat} (hp : p k = true) (hq : q k = false) (ho : ∀ i, i ≠ k → p i = q i) : ∀ {n : Nat}, k < n → pc_ct p n = pc_ct q n + 1
  | 0, h => by omega
  | n + 1, h => by
    show pc_ct p n + (if p n = true then 1 else 0) = pc_ct q n + (if q n = true then 1 else 0) + 1
    by_cases e : k = n
    · subst e
      rw [hp, hq, pc_ct_c (p := p) (q := q) (fun i hi => ho i (by omega))]
      rfl
    · rw [ho n (by omega), pc_ct_f hp hq ho (n := n) (by omega)]
      omega
theorem pc_ct_l {q : Nat → Bool} {n : Nat} : ∀ {l : List Nat}, l.Nodup → (∀ x ∈ l, x < n) → pc_ct (fun x => decide (x ∈ l) && q x) n = l.countP q
  | [], _, _ => by
    rw [List.countP_nil]
    exact pc_ct_0 (fun i hi => by simp)
  | a :: r, hn, hl => by
    have hn' := List.nodup_cons.mp hn
    have ih := pc_ct_l (q := q) (n := n) (l := r) hn'.2 (fun x hx => hl x (List.mem_cons_of_mem _ hx))
    rw [List.countP_cons, ← ih]
    cases hq : q a
    · rw [if_neg (by simp), Nat.add_zero]
      apply pc_ct_c
      intro i hi
      by_cases e : i = a
      · subst e; simp [hq]
      · simp [e]
    · rw [if_pos rfl]
      refine pc_ct_f (k := a) ?_ ?_ ?_ (hl a List.mem_cons_self)
      · simp [hq]
      · simp [hn'.1]
      · intro i e; simp [e]
/-! bit sets -/
theorem pc_b1 {n i : Nat} (hn : n < 32) (hi : i < 32) : bt ((1 : Int32) <<< (nI n &&& 31)) i = decide (i = n) := by
  rw [b_shl n hn 1 hi]
  have h1 : ∀ j, j < 32 → bt 1 j = decide (j = 0) := by decide +kernel
  rw [h1 (i - n) (by omega)]
  by_cases c : i = n
  · subst c; simp
  · simp only [c, decide_false, Bool.and_eq_false_iff, decide_eq_false_iff_not]
    omega
def pc_bs (p : Nat → Bool) : Nat → Int32
  | 0 => 0
  | n + 1 => if p n = true then pc_bs p n ||| ((1 : Int32) <<< (nI n &&& 31)) else pc_bs p n
theorem pc_bs_b {p : Nat → Bool} {i : Nat} (hi : i < 32) : ∀ {n : Nat}, n ≤ 32 → bt (pc_bs p n) i = (decide (i < n) && p i)
  | 0, _ => by
    show bt 0 i = _
    rw [b_0]; simp
  | n + 1, h => by
    have ih := pc_bs_b (p := p) hi (n := n) (by omega)
    show bt (if p n = true then pc_bs p n ||| ((1 : Int32) <<< (nI n &&& 31)) else pc_bs p n) i = _
    by_cases c : i = n
    · subst c
      cases hp : p i
      · rw [if_neg (by simp), ih, hp]; simp
      · rw [if_pos rfl, b_or, pc_b1 (by omega) hi]; simp
    · have e : decide (i < n + 1) = decide (i < n) := by
        by_cases d : i < n
        · rw [decide_eq_true d, decide_eq_true (by omega)]
        · rw [decide_eq_false d, decide_eq_false (by omega)]
      rw [e, ← ih]
      cases hp : p n
      · rw [if_neg (by simp)]
      · rw [if_pos rfl, b_or, pc_b1 (by omega) hi, decide_eq_false c, Bool.or_false]
theorem pc_bs_c {p q : Nat → Bool} {n : Nat} (hn : n ≤ 32) (h : ∀ i, i < n → p i = q i) : pc_bs p n = pc_bs q n := by
  apply b_ext
  intro i hi
  rw [pc_bs_b hi hn, pc_bs_b hi hn]
  by_cases c : i < n
  · rw [h i c]
  · rw [decide_eq_false c]; simp
theorem pc_bs_z {p : Nat → Bool} {n : Nat} (hn : n ≤ 32) : pc_bs p n = 0 ↔ ∀ i, i < n → p i = false := by
  constructor
  · intro h i hi
    have e := pc_bs_b (p := p) (i := i) (by omega) hn
    rw [h, b_0, decide_eq_true hi, Bool.true_and] at e
    exact e.symm
  · intro h
    apply b_ext
    intro i hi
    rw [pc_bs_b hi hn, b_0]
    by_cases c : i < n
    · rw [h i c]; simp
    · rw [decide_eq_false c]; simp
theorem pc_bs_clr {p q : Nat → Bool} {n t : Nat} (hn : n ≤ 32) (ht : t < n) (hq : q t = false) (ho : ∀ i, i < n → i ≠ t → p i = q i) : pc_bs p n &&& (((1 : Int32) <<< (nI t &&& 31)) ^^^ (-1)) = pc_bs q n := by
  apply b_ext
  intro i hi
  rw [b_and, b_xor, pc_b1 (by omega) hi, b_m1 i hi, pc_bs_b hi hn, pc_bs_b hi hn]
  by_cases c : i = t
  · subst c; rw [hq]; simp
  · by_cases d : i < n
    · rw [ho i d c]; simp [c]
    · rw [decide_eq_false d]; simp
theorem pc_bs_set {p q : Nat → Bool} {n t : Nat} (hn : n ≤ 32) (ht : t < n) (hq : q t = true) (ho : ∀ i, i < n → i ≠ t → p i = q i) : pc_bs p n ||| ((1 : Int32) <<< (nI t &&& 31)) = pc_bs q n := by
  apply b_ext
  intro i hi
  rw [b_or, pc_b1 (by omega) hi, pc_bs_b hi hn, pc_bs_b hi hn]
  by_cases c : i = t
  · subst c; rw [hq, decide_eq_true ht]; simp
  · by_cases d : i < n
    · rw [ho i d c]; simp [c]
    · rw [decide_eq_false d]; simp [c]
end
section
/-! own rows: linked lists -/
def pc_hd : List Nat → Option Nat → Option Nat
  | [], e => e
  | n :: _, _ => some n
def pc_la : List Nat → Option Nat → Option Nat
  | [], p => p
  | n :: r, _ => pc_la r (some n)
def pc_Sg (nx pv : Nat → Option Nat) : Option Nat → List Nat → Option Nat → Prop
  | _, [], _ => True
  | p, n :: r, e => pv n = p ∧ nx n = pc_hd r e ∧ pc_Sg nx pv (some n) r e
theorem pc_hd_app : ∀ (a b : List Nat) (e : Option Nat), pc_hd (a ++ b) e = pc_hd a (pc_hd b e)
  | [], _, _ => rfl
  | _ :: _, _, _ => rfl
theorem pc_hd_mem {x : Nat} : ∀ {l : List Nat}, pc_hd l none = some x → x ∈ l
  | [], h => nomatch h
  | n :: r, h => by
    have e : n = x := Option.some.inj h
    rw [e]; exact List.mem_cons_self
theorem pc_la_mem {x : Nat} : ∀ {l : List Nat} {p : Option Nat}, pc_la l p = some x → x ∈ l ∨ (l = [] ∧ p = some x)
  | [], p, h => Or.inr ⟨rfl, h⟩
  | n :: r, p, h => by
    have h' : pc_la r (some n) = some x := h
    rcases pc_la_mem h' with c | ⟨_, c⟩
    · exact Or.inl (List.mem_cons_of_mem _ c)
    · have e : n = x := Option.some.inj c
      rw [e]; exact Or.inl List.mem_cons_self
theorem pc_la_mem0 {x : Nat} {l : List Nat} (h : pc_la l none = some x) : x ∈ l := by
  rcases pc_la_mem h with c | ⟨_, c⟩
  · exact c
  · exact nomatch c
theorem pc_la_ne {n : Nat} : ∀ {l : List Nat} {p q : Option Nat}, l ≠ [] → pc_la l p = pc_la l q
  | [], _, _, h => absurd rfl h
  | _ :: _, _, _, _ => rfl
theorem pc_la_none : ∀ {l : List Nat}, pc_la l none = none → l = []
  | [], _ => rfl
  | n :: r, h => by
    exfalso
    have h' : pc_la r (some n) = none := h
    have g : ∀ (s : List Nat) (m : Nat), pc_la s (some m) ≠ none := by
      intro s
      induction s with
      | nil => intro m z; exact nomatch z
      | cons a s ih => intro m; exact ih a
    exact g r n h'
theorem pc_sg_app {nx pv : Nat → Option Nat} : ∀ (a b : List Nat) (p e : Option Nat), pc_Sg nx pv p (a ++ b) e ↔ pc_Sg nx pv p a (pc_hd b e) ∧ pc_Sg nx pv (pc_la a p) b e
  | [], b, p, e => ⟨fun h => ⟨trivial, h⟩, fun h => h.2⟩
  | n :: r, b, p, e => by
    have ih := pc_sg_app (nx := nx) (pv := pv) r b (some n) e
    show (pv n = p ∧ nx n = pc_hd (r ++ b) e ∧ pc_Sg nx pv (some n) (r ++ b) e) ↔ (pv n = p ∧ nx n = pc_hd r (pc_hd b e) ∧ pc_Sg nx pv (some n) r (pc_hd b e)) ∧ pc_Sg nx pv (pc_la r (some n)) b e
    rw [ih, pc_hd_app]
    exact ⟨fun ⟨h1, h2, h3, h4⟩ => ⟨⟨h1, h2, h3⟩, h4⟩, fun ⟨⟨h1, h2, h3⟩, h4⟩ => ⟨h1, h2, h3, h4⟩⟩
theorem pc_sg_c {nx pv nx' pv' : Nat → Option Nat} : ∀ {l : List Nat} {p e : Option Nat}, (∀ x ∈ l, nx' x = nx x) → (∀ x ∈ l, pv' x = pv x) → pc_Sg nx pv p l e → pc_Sg nx' pv' p l e
  | [], _, _, _, _, _ => trivial
  | n :: r, _, _, h1, h2, h => ⟨(h2 n List.mem_cons_self).trans h.1, (h1 n List.mem_cons_self).trans h.2.1,
      pc_sg_c (fun x hx => h1 x (List.mem_cons_of_mem _ hx)) (fun x hx => h2 x (List.mem_cons_of_mem _ hx)) h.2.2⟩
theorem pc_sg_end {nx pv nx' pv' : Nat → Option Nat} {e r : Option Nat} : ∀ {a : List Nat} {p : Option Nat}, a.Nodup → (∀ x ∈ a, pc_la a none ≠ some x → nx' x = nx x) → (∀ x, pc_la a none = some x → nx' x = r) → (∀ x ∈ a, pv' x = pv x) → pc_Sg nx pv p a e → pc_Sg nx' pv' p a r
  | [], _, _, _, _, _, _ => trivial
  | [n], _, _, _, h2, h3, h => ⟨(h3 n List.mem_cons_self).trans h.1, h2 n rfl, trivial⟩
  | n :: m :: s, _, hn, h1, h2, h3, h => by
    have hn' := List.nodup_cons.mp hn
    refine ⟨(h3 n List.mem_cons_self).trans h.1, ?_, ?_⟩
    · rw [h1 n List.mem_cons_self ?_]
      · exact h.2.1
      · intro z
        exact hn'.1 (pc_la_mem0 (l := m :: s) z)
    · exact pc_sg_end (a := m :: s) hn'.2 (fun x hx hz => h1 x (List.mem_cons_of_mem _ hx) hz) (fun x hx => h2 x hx) (fun x hx => h3 x (List.mem_cons_of_mem _ hx)) h.2.2
theorem pc_sg_start {nx pv nx' pv' : Nat → Option Nat} {e q p : Option Nat} : ∀ {b : List Nat}, b.Nodup → (∀ x ∈ b, nx' x = nx x) → (∀ x ∈ b, pc_hd b none ≠ some x → pv' x = pv x) → (∀ x, pc_hd b none = some x → pv' x = p) → pc_Sg nx pv q b e → pc_Sg nx' pv' p b e
  | [], _, _, _, _, _ => trivial
  | n :: s, hn, h1, h2, h3, h => by
    have hn' := List.nodup_cons.mp hn
    refine ⟨h3 n rfl, (h1 n List.mem_cons_self).trans h.2.1, ?_⟩
    refine pc_sg_c (fun x hx => h1 x (List.mem_cons_of_mem _ hx)) (fun x hx => h2 x (List.mem_cons_of_mem _ hx) ?_) h.2.2
    intro z
    have e : n = x := Option.some.inj z
    exact hn'.1 (e ▸ hx)
/-! what link does -/
def pc_lF (fi : Nat → Option Nat) (L : Nat) (l r : Option Nat) : Nat → Option Nat := match l with
  | none => pc_u fi L r
  | some _ => fi
def pc_lN (nx : Nat → Option Nat) (l r : Option Nat) : Nat → Option Nat := match l with
  | none => nx
  | some x => pc_u nx x r
def pc_lP (pv : Nat → Option Nat) (l r : Option Nat) : Nat → Option Nat := match r with
  | none => pv
  | some y => pc_u pv y l
theorem pc_lF_ne {fi : Nat → Option Nat} {L j : Nat} {l r : Option Nat} (h : j ≠ L) : pc_lF fi L l r j = fi j := by
  cases l
  · exact pc_un h
  · rfl
theorem pc_lN_ne {nx : Nat → Option Nat} {j : Nat} {l r : Option Nat} (h : l ≠ some j) : pc_lN nx l r j = nx j := by
  cases l with
  | none => rfl
  | some x => exact pc_un (fun e => h (congrArg some e.symm))
theorem pc_lN_eq {nx : Nat → Option Nat} {j : Nat} {l r : Option Nat} (h : l = some j) : pc_lN nx l r j = r := by
  subst h; exact pc_us
theorem pc_lP_ne {pv : Nat → Option Nat} {j : Nat} {l r : Option Nat} (h : r ≠ some j) : pc_lP pv l r j = pv j := by
  cases r with
  | none => rfl
  | some x => exact pc_un (fun e => h (congrArg some e.symm))
theorem pc_lP_eq {pv : Nat → Option Nat} {j : Nat} {l r : Option Nat} (h : r = some j) : pc_lP pv l r j = l := by
  subst h; exact pc_us
/-! the lists -/
def pc_LL (ls : Nat → List Nat) (fi nx pv hm : Nat → Option Nat) (ky : Nat → Nat) : Prop :=
  (∀ L, L < 33 → fi L = pc_hd (ls L) none ∧ pc_Sg nx pv none (ls L) none ∧ (ls L).Nodup ∧ (ls L).Pairwise (fun a b => ky a ≤ ky b)) ∧
  (∀ L n, L < 33 → (n ∈ ls L ↔ n < 48 ∧ hm n = some L)) ∧
  (∀ n L, n < 48 → hm n = some L → L < 33 ∧ n / 16 = L / 16)
theorem pc_ll_len {ls : Nat → List Nat} {fi nx pv hm : Nat → Option Nat} {ky : Nat → Nat} (H : pc_LL ls fi nx pv hm ky) {L : Nat} (hL : L < 33) : (ls L).length ≤ 16 := by
  have h1 := (H.1 L hL).2.2.1
  have h2 : ∀ x ∈ ls L, x ∈ List.range' (16 * (L / 16)) 16 := by
    intro x hx
    have a := (H.2.1 L x hL).mp hx
    have b := H.2.2 x L a.1 a.2
    rw [List.mem_range'_1]
    omega
  have h3 := List.Nodup.length_le_of_subset h1 h2
  rw [List.length_range'] at h3
  exact h3
theorem pc_nm {n x : Nat} {l : List Nat} (h : n ∉ l) (hx : x ∈ l) : x ≠ n := fun e => h (e ▸ hx)
theorem pc_ll_rem {ls : Nat → List Nat} {fi nx pv hm : Nat → Option Nat} {ky : Nat → Nat} (H : pc_LL ls fi nx pv hm ky) {n L : Nat} (hn : n < 48) (hL : hm n = some L) :
    pc_LL (fun l => (ls l).erase n) (pc_lF fi L (pv n) (nx n)) (pc_lN nx (pv n) (nx n)) (pc_lP pv (pv n) (nx n)) (pc_u hm n none) ky := by
  have hL33 := (H.2.2 n L hn hL).1
  have hmem := (H.2.1 L n hL33).mpr ⟨hn, hL⟩
  obtain ⟨a, b, hab⟩ := List.append_of_mem hmem
  obtain ⟨hfi, hsg, hnd, hpw⟩ := H.1 L hL33
  rw [hab] at hfi hsg hnd hpw
  obtain ⟨hs1, hs2, hs3, hs4⟩ := (pc_sg_app a (n :: b) none none).mp hsg
  have hnd2 := List.nodup_append.mp hnd
  have hna : n ∉ a := fun z => hnd2.2.2 n z n List.mem_cons_self rfl
  have hnb : n ∉ b := (List.nodup_cons.mp hnd2.2.1).1
  have hbn := (List.nodup_cons.mp hnd2.2.1).2
  have her : (ls L).erase n = a ++ b := by
    rw [hab, List.erase_append_right _ hna, List.erase_cons_head]
  have hsub : (a ++ b).Sublist (a ++ n :: b) := List.Sublist.append_left (List.sublist_cons_self n b) a
  rw [hs2, hs3]
  have hdis : ∀ x ∈ a, x ∉ b := fun x hx hb => hnd2.2.2 x hx x (List.mem_cons_of_mem _ hb) rfl
  refine ⟨?_, ?_, ?_⟩
  · intro l hl
    by_cases e : l = L
    · subst e
      show pc_lF fi l (pc_la a none) (pc_hd b none) l = pc_hd ((ls l).erase n) none ∧ pc_Sg _ _ none ((ls l).erase n) none ∧ ((ls l).erase n).Nodup ∧ ((ls l).erase n).Pairwise _
      rw [her]
      refine ⟨?_, ?_, hsub.nodup hnd, hpw.sublist hsub⟩
      · cases ha : pc_la a none with
        | none =>
          rw [pc_la_none ha]
          exact pc_us
        | some x =>
          show fi l = _
          rw [hfi]
          cases a with
          | nil => exact nomatch ha
          | cons y s => rfl
      · rw [pc_sg_app]
        constructor
        · refine pc_sg_end hnd2.1 (fun x hx hz => pc_lN_ne hz) (fun x hx => pc_lN_eq hx) (fun x hx => pc_lP_ne ?_) hs1
          intro z
          exact hdis x hx (pc_hd_mem z)
        · refine pc_sg_start hbn (fun x hx => pc_lN_ne ?_) (fun x hx hz => pc_lP_ne hz) (fun x hx => pc_lP_eq hx) hs4
          intro z
          exact hdis x (pc_la_mem0 z) hx
    · have hnl : n ∉ ls l := fun z => by
        have := ((H.2.1 l n hl).mp z).2
        rw [hL] at this
        exact e (Option.some.inj this).symm
      obtain ⟨g1, g2, g3, g4⟩ := H.1 l hl
      show pc_lF fi L (pc_la a none) (pc_hd b none) l = pc_hd ((ls l).erase n) none ∧ pc_Sg _ _ none ((ls l).erase n) none ∧ ((ls l).erase n).Nodup ∧ ((ls l).erase n).Pairwise _
      rw [List.erase_of_not_mem hnl, pc_lF_ne e]
      have hx : ∀ x ∈ ls l, x ∉ ls L := fun x h1 h2 => by
        have a1 := ((H.2.1 l x hl).mp h1).2
        have a2 := ((H.2.1 L x hL33).mp h2).2
        rw [a1] at a2
        exact e (Option.some.inj a2)
      refine ⟨g1, pc_sg_c (fun x h1 => pc_lN_ne ?_) (fun x h1 => pc_lP_ne ?_) g2, g3, g4⟩
      · intro z
        exact hx x h1 (by rw [hab]; exact List.mem_append_left _ (pc_la_mem0 z))
      · intro z
        exact hx x h1 (by rw [hab]; exact List.mem_append_right _ (List.mem_cons_of_mem _ (pc_hd_mem z)))
  · intro l x hl
    show x ∈ (ls l).erase n ↔ _
    rw [List.Nodup.mem_erase_iff (H.1 l hl).2.2.1, H.2.1 l x hl]
    by_cases e : x = n
    · subst e
      rw [pc_us]
      exact ⟨fun z => absurd rfl z.1, fun z => nomatch z.2⟩
    · rw [pc_un e]
      exact ⟨fun z => z.2, fun z => ⟨e, z⟩⟩
  · intro x l hx hl
    by_cases e : x = n
    · subst e; rw [pc_us] at hl; exact nomatch hl
    · rw [pc_un e] at hl; exact H.2.2 x l hx hl
theorem pc_ll_ins {ls : Nat → List Nat} {fi nx pv hm : Nat → Option Nat} {ky : Nat → Nat} (H : pc_LL ls fi nx pv hm ky) {n L k : Nat} {a b : List Nat} (hn : n < 48) (hL33 : L < 33) (hc : n / 16 = L / 16) (hno : hm n = none)
    (hab : ls L = a ++ b) (hka : ∀ x ∈ a, ky x ≤ k) (hkb : ∀ x ∈ b, k < ky x) :
    pc_LL (pc_u ls L (a ++ n :: b)) (pc_lF fi L (pc_la a none) (some n)) (pc_u (pc_lN nx (pc_la a none) (some n)) n (pc_hd b none)) (pc_lP (pc_u pv n (pc_la a none)) (some n) (pc_hd b none)) (pc_u hm n (some L)) (pc_u ky n k) := by
  obtain ⟨hfi, hsg, hnd, hpw⟩ := H.1 L hL33
  have hnot : ∀ l, l < 33 → n ∉ ls l := fun l hl z => by
    have := ((H.2.1 l n hl).mp z).2
    rw [hno] at this
    exact nomatch this
  have hnl := hnot L hL33
  rw [hab] at hfi hsg hnd hpw hnl
  obtain ⟨hs1, hs4⟩ := (pc_sg_app a b none none).mp hsg
  have hnd2 := List.nodup_append.mp hnd
  have hna : n ∉ a := fun z => hnl (List.mem_append_left _ z)
  have hnb : n ∉ b := fun z => hnl (List.mem_append_right _ z)
  have hdis : ∀ x ∈ a, x ∉ b := fun x hx hb => hnd2.2.2 x hx x hb rfl
  have hpw2 := List.pairwise_append.mp hpw
  have hkn : ∀ x, x ≠ n → pc_u ky n k x = ky x := fun x hx => pc_un hx
  have hpwx : ∀ {l : List Nat}, n ∉ l → l.Pairwise (fun x y => ky x ≤ ky y) → l.Pairwise (fun x y => pc_u ky n k x ≤ pc_u ky n k y) := by
    intro l hl hp
    refine List.Pairwise.imp_of_mem ?_ hp
    intro x y hx hy hxy
    rw [hkn x (fun e => hl (e ▸ hx)), hkn y (fun e => hl (e ▸ hy))]
    exact hxy
  refine ⟨?_, ?_, ?_⟩
  · intro l hl
    by_cases e : l = L
    · subst e
      rw [pc_us]
      refine ⟨?_, ?_, ?_, ?_⟩
      · cases ha : pc_la a none with
        | none =>
          rw [pc_la_none ha]
          exact pc_us
        | some x =>
          show fi l = _
          rw [hfi]
          cases a with
          | nil => exact nomatch ha
          | cons y s => rfl
      · rw [pc_sg_app]
        refine ⟨?_, ?_, ?_, ?_⟩
        · refine pc_sg_end hnd2.1 (fun x hx hz => ?_) (fun x hx => ?_) (fun x hx => ?_) hs1
          · rw [pc_un (pc_nm (hna) hx), pc_lN_ne hz]
          · rw [pc_un (pc_nm hna (pc_la_mem0 hx)), pc_lN_eq hx]; rfl
          · rw [pc_lP_ne (fun z => hdis x hx (pc_hd_mem z)), pc_un (pc_nm (hna) hx)]
        · rw [pc_lP_ne (fun z => hnb (pc_hd_mem z)), pc_us]
        · rw [pc_us]
        · refine pc_sg_start hnd2.2.1 (fun x hx => ?_) (fun x hx hz => ?_) (fun x hx => ?_) hs4
          · rw [pc_un (pc_nm (hnb) hx), pc_lN_ne (fun z => hdis x (pc_la_mem0 z) hx)]
          · rw [pc_lP_ne hz, pc_un (pc_nm (hnb) hx)]
          · rw [pc_lP_eq hx]
      · rw [List.nodup_append]
        refine ⟨hnd2.1, List.nodup_cons.mpr ⟨hnb, hnd2.2.1⟩, ?_⟩
        intro x hx y hy
        rcases List.mem_cons.mp hy with z | z
        · intro w; exact hna (z ▸ w ▸ hx)
        · exact hnd2.2.2 x hx y z
      · rw [List.pairwise_append]
        refine ⟨hpwx hna hpw2.1, ?_, ?_⟩
        · rw [List.pairwise_cons]
          refine ⟨?_, hpwx hnb hpw2.2.1⟩
          intro y hy
          rw [pc_us, hkn y (fun z => hnb (z ▸ hy))]
          exact Nat.le_of_lt (hkb y hy)
        · intro x hx y hy
          rw [hkn x (fun z => hna (z ▸ hx))]
          rcases List.mem_cons.mp hy with z | z
          · rw [z, pc_us]; exact hka x hx
          · rw [hkn y (fun w => hnb (w ▸ z))]; exact hpw2.2.2 x hx y z
    · obtain ⟨g1, g2, g3, g4⟩ := H.1 l hl
      have hx : ∀ x ∈ ls l, x ∉ ls L := fun x h1 h2 => by
        have a1 := ((H.2.1 l x hl).mp h1).2
        have a2 := ((H.2.1 L x hL33).mp h2).2
        rw [a1] at a2
        exact e (Option.some.inj a2)
      rw [hab] at hx
      rw [pc_un e, pc_lF_ne e]
      refine ⟨g1, pc_sg_c (fun x h1 => ?_) (fun x h1 => ?_) g2, g3, hpwx (hnot l hl) g4⟩
      · rw [pc_un (pc_nm (hnot l hl) h1), pc_lN_ne (fun z => hx x h1 (List.mem_append_left _ (pc_la_mem0 z)))]
      · rw [pc_lP_ne (fun z => hx x h1 (List.mem_append_right _ (pc_hd_mem z))), pc_un (pc_nm (hnot l hl) h1)]
  · intro l x hl
    by_cases e : l = L
    · subst e
      rw [pc_us]
      by_cases f : x = n
      · subst f
        rw [pc_us]
        exact ⟨fun _ => ⟨hn, rfl⟩, fun _ => List.mem_append_right _ List.mem_cons_self⟩
      · rw [pc_un f, ← H.2.1 l x hl, hab, List.mem_append, List.mem_append, List.mem_cons]
        exact ⟨fun z => z.elim Or.inl (fun w => w.elim (fun q => absurd q f) Or.inr), fun z => z.elim Or.inl (fun w => Or.inr (Or.inr w))⟩
    · rw [pc_un e, H.2.1 l x hl]
      by_cases f : x = n
      · subst f
        rw [pc_us, hno]
        exact ⟨(fun z => nomatch z.2), fun z => absurd (Option.some.inj z.2).symm e⟩
      · rw [pc_un f]
  · intro x l hx hl
    by_cases e : x = n
    · subst e
      rw [pc_us] at hl
      have := Option.some.inj hl
      subst this
      exact ⟨hL33, hc⟩
    · rw [pc_un e] at hl; exact H.2.2 x l hx hl
/-! the lists, hidden -/
def pc_L (fi nx pv hm : Nat → Option Nat) (ky : Nat → Nat) : Prop := ∃ ls, pc_LL ls fi nx pv hm ky
theorem pc_L_none {fi nx pv hm : Nat → Option Nat} {ky : Nat → Nat} (H : pc_L fi nx pv hm ky) {L : Nat} (hL : L < 33) (h : fi L = none) : ∀ n, n < 48 → hm n ≠ some L := by
  obtain ⟨ls, H⟩ := H
  intro n hn z
  have hm' := (H.2.1 L n hL).mpr ⟨hn, z⟩
  have hf := (H.1 L hL).1
  rw [h] at hf
  cases hc : ls L with
  | nil => rw [hc] at hm'; exact nomatch hm'
  | cons x r => rw [hc] at hf; exact nomatch hf
theorem pc_L_some {fi nx pv hm : Nat → Option Nat} {ky : Nat → Nat} (H : pc_L fi nx pv hm ky) {L x : Nat} (hL : L < 33) (h : fi L = some x) : x < 48 ∧ hm x = some L ∧ ∀ n, n < 48 → hm n = some L → ky x ≤ ky n := by
  obtain ⟨ls, H⟩ := H
  obtain ⟨hf, _, _, hp⟩ := H.1 L hL
  rw [h] at hf
  have hx := pc_hd_mem hf.symm
  have h1 := (H.2.1 L x hL).mp hx
  refine ⟨h1.1, h1.2, ?_⟩
  intro n hn hz
  have h2 := (H.2.1 L n hL).mpr ⟨hn, hz⟩
  cases hc : ls L with
  | nil => rw [hc] at h2; exact nomatch h2
  | cons y r =>
    rw [hc] at hf h2 hp
    have e : x = y := Option.some.inj hf
    subst e
    rcases List.mem_cons.mp h2 with z | z
    · rw [z]; exact Nat.le_refl _
    · exact (List.pairwise_cons.mp hp).1 n z
theorem pc_L_ex {fi nx pv hm : Nat → Option Nat} {ky : Nat → Nat} (H : pc_L fi nx pv hm ky) {L n : Nat} (hL : L < 33) (hn : n < 48) (h : hm n = some L) : ∃ x, fi L = some x := by
  cases hf : fi L with
  | none => exact absurd h (pc_L_none H hL hf n hn)
  | some x => exact ⟨x, rfl⟩
theorem pc_L_cls {fi nx pv hm : Nat → Option Nat} {ky : Nat → Nat} (H : pc_L fi nx pv hm ky) {n L : Nat} (hn : n < 48) (h : hm n = some L) : L < 33 ∧ n / 16 = L / 16 := by
  obtain ⟨ls, H⟩ := H
  exact H.2.2 n L hn h
end
section
/-! own rows: the level sets -/
def pc_BU (lv : Nat → Option Nat) : Nat → Int32 := fun j => if j < 64 then pc_bs (fun t => decide (lv (16 * (j / 32) + t) = some (j % 32))) 16 else 0
def pc_an (lv : Nat → Option Nat) (s l : Nat) : Bool := (List.range 16).any (fun t => decide (lv (16 * s + t) = some l))
def pc_OC (lv : Nat → Option Nat) : Nat → Int32 := fun s => if s < 2 then pc_bs (pc_an lv s) 32 else 0
def pc_ME (lv : Nat → Option Nat) : Nat → Int32 := fun s => if s < 2 then nI (pc_ct (fun t => (lv (16 * s + t)).isSome) 16) else 0
theorem pc_an_t {lv : Nat → Option Nat} {s l : Nat} : pc_an lv s l = true ↔ ∃ t, t < 16 ∧ lv (16 * s + t) = some l := by
  unfold pc_an
  rw [List.any_eq_true]
  constructor
  · rintro ⟨t, h1, h2⟩
    exact ⟨t, List.mem_range.mp h1, of_decide_eq_true h2⟩
  · rintro ⟨t, h1, h2⟩
    exact ⟨t, List.mem_range.mpr h1, decide_eq_true h2⟩
theorem pc_an_f {lv : Nat → Option Nat} {s l : Nat} : pc_an lv s l = false ↔ ∀ t, t < 16 → lv (16 * s + t) ≠ some l := by
  constructor
  · intro h t ht z
    have := pc_an_t.mpr ⟨t, ht, z⟩
    rw [h] at this
    exact nomatch this
  · intro h
    cases c : pc_an lv s l
    · rfl
    · obtain ⟨t, ht, z⟩ := pc_an_t.mp c
      exact absurd z (h t ht)
theorem pc_an_c {lv lv' : Nat → Option Nat} {s l : Nat} (h : ∀ t, t < 16 → (lv (16 * s + t) = some l ↔ lv' (16 * s + t) = some l)) : pc_an lv s l = pc_an lv' s l := by
  cases c : pc_an lv' s l
  · rw [pc_an_f] at c ⊢
    exact fun t ht z => c t ht ((h t ht).mp z)
  · rw [pc_an_t] at c ⊢
    obtain ⟨t, ht, z⟩ := c
    exact ⟨t, ht, (h t ht).mpr z⟩
theorem pc_BU_at {lv : Nat → Option Nat} {s l : Nat} (hs : s < 2) (hl : l < 32) : pc_BU lv (32 * s + l) = pc_bs (fun t => decide (lv (16 * s + t) = some l)) 16 := by
  have e1 : (32 * s + l) / 32 = s := by omega
  have e2 : (32 * s + l) % 32 = l := by omega
  unfold pc_BU
  rw [if_pos (by omega), e1, e2]
theorem pc_BU_z {lv : Nat → Option Nat} {s l : Nat} (hs : s < 2) (hl : l < 32) : pc_BU lv (32 * s + l) = 0 ↔ ∀ t, t < 16 → lv (16 * s + t) ≠ some l := by
  rw [pc_BU_at hs hl, pc_bs_z (by decide)]
  exact ⟨fun h t ht => of_decide_eq_false (h t ht), fun h t ht => decide_eq_false (h t ht)⟩
theorem pc_BU_ne {lv : Nat → Option Nat} {s t o j : Nat} {v : Option Nat} (hs : s < 2) (ht : t < 16) (e : j ≠ 32 * s + o) (ho : o < 32) (h1 : lv (16 * s + t) = some o ∨ lv (16 * s + t) = none) (h2 : v = some o ∨ v = none) : pc_BU lv j = pc_BU (pc_u lv (16 * s + t) v) j := by
  unfold pc_BU
  by_cases hj : j < 64
  · rw [if_pos hj, if_pos hj]
    apply pc_bs_c (by decide)
    intro i hi
    by_cases f : 16 * (j / 32) + i = 16 * s + t
    · rw [f, pc_us]
      have hne : j % 32 ≠ o := by omega
      have n1 : ¬ lv (16 * s + t) = some (j % 32) := by
        intro z
        rcases h1 with h | h <;> rw [h] at z
        · exact hne (Option.some.inj z).symm
        · exact nomatch z
      have n2 : ¬ v = some (j % 32) := by
        intro z
        rcases h2 with h | h <;> rw [h] at z
        · exact hne (Option.some.inj z).symm
        · exact nomatch z
      rw [decide_eq_false n1, decide_eq_false n2]
    · rw [pc_un f]
  · rw [if_neg hj, if_neg hj]
theorem pc_BU_rm {lv : Nat → Option Nat} {s t o : Nat} (hs : s < 2) (ht : t < 16) (ho : o < 32) (h : lv (16 * s + t) = some o) :
    upd (pc_BU lv) (32 * s + o) (pc_BU lv (32 * s + o) &&& (((1 : Int32) <<< (nI t &&& 31)) ^^^ (-1))) = pc_BU (pc_u lv (16 * s + t) none) := by
  funext j
  by_cases e : j = 32 * s + o
  · subst e
    rw [pk_us, pc_BU_at hs ho, pc_BU_at hs ho]
    apply pc_bs_clr (by decide) ht
    · rw [pc_us]; exact decide_eq_false (fun z => nomatch z)
    · intro i hi hne
      rw [pc_un (by omega)]
  · rw [pk_un e]
    exact pc_BU_ne hs ht e ho (Or.inl h) (Or.inr rfl)
theorem pc_BU_ad {lv : Nat → Option Nat} {s t o : Nat} (hs : s < 2) (ht : t < 16) (ho : o < 32) (h : lv (16 * s + t) = none) :
    upd (pc_BU lv) (32 * s + o) (pc_BU lv (32 * s + o) ||| ((1 : Int32) <<< (nI t &&& 31))) = pc_BU (pc_u lv (16 * s + t) (some o)) := by
  funext j
  by_cases e : j = 32 * s + o
  · subst e
    rw [pk_us, pc_BU_at hs ho, pc_BU_at hs ho]
    apply pc_bs_set (by decide) ht
    · rw [pc_us]; exact decide_eq_true rfl
    · intro i hi hne
      rw [pc_un (by omega)]
  · rw [pk_un e]
    exact pc_BU_ne hs ht e ho (Or.inr h) (Or.inl rfl)
theorem pc_OC_ne {lv : Nat → Option Nat} {s t j : Nat} {v : Option Nat} (ht : t < 16) (e : j ≠ s) : pc_OC (pc_u lv (16 * s + t) v) j = pc_OC lv j := by
  unfold pc_OC
  by_cases hj : j < 2
  · rw [if_pos hj, if_pos hj]
    apply pc_bs_c (by decide)
    intro l hl
    apply pc_an_c
    intro i hi
    rw [pc_un (by omega)]
  · rw [if_neg hj, if_neg hj]
theorem pc_OC_rm0 {lv : Nat → Option Nat} {s t o : Nat} (hs : s < 2) (ht : t < 16) (ho : o < 32) (h : lv (16 * s + t) = some o) (hz : pc_BU (pc_u lv (16 * s + t) none) (32 * s + o) = 0) :
    upd (pc_OC lv) s (pc_OC lv s &&& (((1 : Int32) <<< (nI o &&& 31)) ^^^ (-1))) = pc_OC (pc_u lv (16 * s + t) none) := by
  funext j
  by_cases e : j = s
  · subst e
    rw [pk_us]
    unfold pc_OC
    rw [if_pos hs, if_pos hs]
    apply pc_bs_clr (by decide) ho
    · rw [pc_an_f]; exact (pc_BU_z hs ho).mp hz
    · intro i hi hne
      apply pc_an_c
      intro t' ht'
      by_cases f : 16 * j + t' = 16 * j + t
      · rw [f, pc_us, h]
        exact ⟨fun z => absurd (Option.some.inj z).symm hne, fun z => nomatch z⟩
      · rw [pc_un f]
  · rw [pk_un e, pc_OC_ne ht e]
theorem pc_OC_rm1 {lv : Nat → Option Nat} {s t o : Nat} (hs : s < 2) (ht : t < 16) (ho : o < 32) (h : lv (16 * s + t) = some o) (hz : ¬ pc_BU (pc_u lv (16 * s + t) none) (32 * s + o) = 0) :
    pc_OC (pc_u lv (16 * s + t) none) = pc_OC lv := by
  funext j
  by_cases e : j = s
  · subst e
    unfold pc_OC
    rw [if_pos hs, if_pos hs]
    apply pc_bs_c (by decide)
    intro i hi
    by_cases c : i = o
    · subst c
      have a1 : pc_an lv j i = true := pc_an_t.mpr ⟨t, ht, h⟩
      have a2 : pc_an (pc_u lv (16 * j + t) none) j i = true := by
        cases q : pc_an (pc_u lv (16 * j + t) none) j i
        · exact absurd ((pc_BU_z hs ho).mpr (pc_an_f.mp q)) hz
        · rfl
      rw [a1, a2]
    · apply pc_an_c
      intro t' ht'
      by_cases f : 16 * j + t' = 16 * j + t
      · rw [f, pc_us, h]
        exact ⟨(fun z => nomatch z), fun z => absurd (Option.some.inj z).symm c⟩
      · rw [pc_un f]
  · exact pc_OC_ne ht e
theorem pc_OC_ad {lv : Nat → Option Nat} {s t o : Nat} (hs : s < 2) (ht : t < 16) (ho : o < 32) (h : lv (16 * s + t) = none) :
    upd (pc_OC lv) s (pc_OC lv s ||| ((1 : Int32) <<< (nI o &&& 31))) = pc_OC (pc_u lv (16 * s + t) (some o)) := by
  funext j
  by_cases e : j = s
  · subst e
    rw [pk_us]
    unfold pc_OC
    rw [if_pos hs, if_pos hs]
    apply pc_bs_set (by decide) ho
    · exact pc_an_t.mpr ⟨t, ht, pc_us⟩
    · intro i hi hne
      apply pc_an_c
      intro t' ht'
      by_cases f : 16 * j + t' = 16 * j + t
      · rw [f, pc_us, h]
        exact ⟨(fun z => nomatch z), fun z => absurd (Option.some.inj z).symm hne⟩
      · rw [pc_un f]
  · rw [pk_un e, pc_OC_ne ht e]
theorem pc_ME_ne {lv : Nat → Option Nat} {s t j : Nat} {v : Option Nat} (ht : t < 16) (e : j ≠ s) : pc_ME (pc_u lv (16 * s + t) v) j = pc_ME lv j := by
  unfold pc_ME
  by_cases hj : j < 2
  · rw [if_pos hj, if_pos hj]
    apply congrArg nI
    apply pc_ct_c
    intro i hi
    rw [pc_un (by omega)]
  · rw [if_neg hj, if_neg hj]
theorem pc_ME_rm {lv : Nat → Option Nat} {s t o : Nat} (hs : s < 2) (ht : t < 16) (h : lv (16 * s + t) = some o) :
    upd (pc_ME lv) s (pc_ME lv s - 1) = pc_ME (pc_u lv (16 * s + t) none) := by
  funext j
  by_cases e : j = s
  · subst e
    rw [pk_us]
    unfold pc_ME
    rw [if_pos hs, if_pos hs]
    have hc : pc_ct (fun i => (lv (16 * j + i)).isSome) 16 = pc_ct (fun i => ((pc_u lv (16 * j + t) none) (16 * j + i)).isSome) 16 + 1 := by
      refine pc_ct_f (k := t) ?_ ?_ ?_ ht
      · show (lv (16 * j + t)).isSome = true
        rw [h]; rfl
      · show ((pc_u lv (16 * j + t) none) (16 * j + t)).isSome = false
        rw [pc_us]; rfl
      · intro i hne
        show (lv (16 * j + i)).isSome = ((pc_u lv (16 * j + t) none) (16 * j + i)).isSome
        rw [pc_un (by omega)]
    rw [hc, nI_pred]
  · rw [pk_un e, pc_ME_ne ht e]
theorem pc_ME_ad {lv : Nat → Option Nat} {s t o : Nat} (hs : s < 2) (ht : t < 16) (h : lv (16 * s + t) = none) :
    upd (pc_ME lv) s (pc_ME lv s + 1) = pc_ME (pc_u lv (16 * s + t) (some o)) := by
  funext j
  by_cases e : j = s
  · subst e
    rw [pk_us]
    unfold pc_ME
    rw [if_pos hs, if_pos hs]
    have hc : pc_ct (fun i => ((pc_u lv (16 * j + t) (some o)) (16 * j + i)).isSome) 16 = pc_ct (fun i => (lv (16 * j + i)).isSome) 16 + 1 := by
      refine pc_ct_f (k := t) ?_ ?_ ?_ ht
      · show ((pc_u lv (16 * j + t) (some o)) (16 * j + t)).isSome = true
        rw [pc_us]; rfl
      · show (lv (16 * j + t)).isSome = false
        rw [h]; rfl
      · intro i hne
        show ((pc_u lv (16 * j + t) (some o)) (16 * j + i)).isSome = (lv (16 * j + i)).isSome
        rw [pc_un (by omega)]
    rw [hc, nI_1]
  · rw [pk_un e, pc_ME_ne ht e]
/-! ranges of the levels -/
def pc_LV (T : Nat) (lv : Nat → Option Nat) : Prop := (∀ j l, j < 32 → lv j = some l → l < 32) ∧ (∀ t, T ≤ t → t < 16 → lv t = none ∧ lv (16 + t) = none)
theorem pc_LV_u {T : Nat} {lv : Nat → Option Nat} {s t : Nat} {v : Option Nat} (hT : T ≤ 16) (h : pc_LV T lv) (hs : s < 2) (ht : t < T) (hv : ∀ l, v = some l → l < 32) : pc_LV T (pc_u lv (16 * s + t) v) := by
  constructor
  · intro j l hj hl
    by_cases e : j = 16 * s + t
    · rw [e, pc_us] at hl; exact hv l hl
    · rw [pc_un e] at hl; exact h.1 j l hj hl
  · intro i h1 h2
    rw [pc_un (by omega), pc_un (by omega)]
    exact h.2 i h1 h2
theorem pc_LV_u0 {T : Nat} {lv : Nat → Option Nat} {t : Nat} {v : Option Nat} (hT : T ≤ 16) (h : pc_LV T lv) (ht : t < T) (hv : ∀ l, v = some l → l < 32) : pc_LV T (pc_u lv t v) := by
  have e : t = 16 * 0 + t := by omega
  rw [e]; exact pc_LV_u hT h (by decide) ht hv
theorem pc_LV_u1 {T : Nat} {lv : Nat → Option Nat} {t : Nat} {v : Option Nat} (hT : T ≤ 16) (h : pc_LV T lv) (ht : t < T) (hv : ∀ l, v = some l → l < 32) : pc_LV T (pc_u lv (16 + t) v) := by
  have e : 16 + t = 16 * 1 + t := by omega
  rw [e]; exact pc_LV_u hT h (by decide) ht hv
/-! the greatest -/
def pc_Gr (lv : Nat → Option Nat) (s : Nat) (G : Option Nat) : Prop :=
  (G = none ∧ ∀ t, t < 16 → lv (16 * s + t) = none) ∨
  ∃ t l, G = some t ∧ t < 16 ∧ lv (16 * s + t) = some l ∧ ∀ t' l', t' < 16 → lv (16 * s + t') = some l' → l' ≤ l ∧ (l' = l → t ≤ t')
theorem pc_bt_hi {x : Int32} {r : Nat} (h1 : 2 ^ r ≤ x.toBitVec.toNat) (h2 : x.toBitVec.toNat < 2 ^ (r + 1)) : r < 32 ∧ bt x r = true ∧ ∀ i, r < i → bt x i = false := by
  have hx := x.toBitVec.isLt
  have hr : r < 32 := by
    rcases Nat.lt_or_ge r 32 with c | c
    · exact c
    · have := Nat.pow_le_pow_right (n := 2) (by decide) c
      omega
  refine ⟨hr, ?_, ?_⟩
  · unfold bt
    rw [BitVec.getLsbD, Nat.testBit_eq_decide_div_mod_eq]
    apply decide_eq_true
    have a : x.toBitVec.toNat / 2 ^ r = 1 := by
      apply Nat.div_eq_of_lt_le
      · omega
      · rw [Nat.pow_succ] at h2; omega
    rw [a]
  · intro i hi
    unfold bt
    rw [BitVec.getLsbD]
    apply Nat.testBit_lt_two_pow
    exact Nat.lt_of_lt_of_le h2 (Nat.pow_le_pow_right (by decide) hi)
theorem pc_bt_0 {x : Int32} (h : ¬ x = 0) : ∃ i, i < 32 ∧ bt x i = true := by
  apply Classical.byContradiction
  intro hc
  apply h
  apply b_ext
  intro i hi
  rw [b_0]
  cases c : bt x i
  · rfl
  · exact absurd ⟨i, hi, c⟩ hc
theorem pc_pos {x : Int32} {i : Nat} (h : bt x i = true) : 0 < x.toBitVec.toNat := by
  rcases Nat.eq_zero_or_pos x.toBitVec.toNat with c | c
  · exfalso
    unfold bt at h
    rw [BitVec.getLsbD, c, Nat.zero_testBit] at h
    exact nomatch h
  · exact c
theorem pc_b_neg (x : Int32) {i : Nat} (hi : i < 32) : bt (-x) i = (bt x i ^^ decide (∃ j, j < i ∧ bt x j = true)) := by
  unfold bt
  rw [Int32.toBitVec_neg, BitVec.getLsbD_neg, decide_eq_true hi, Bool.true_and]
theorem pc_low {x : Int32} {r : Nat} (hr : r < 32) (h : bt (x &&& (-x)) r = true) : bt x r = true ∧ ∀ j, j < r → bt x j = false := by
  rw [b_and, pc_b_neg x hr] at h
  cases c : bt x r
  · rw [c] at h; exact nomatch h
  · rw [c, Bool.true_and, Bool.true_xor, Bool.not_eq_true', decide_eq_false_iff_not] at h
    refine ⟨rfl, fun j hj => ?_⟩
    cases d : bt x j
    · rfl
    · exact absurd ⟨j, hj, d⟩ h
theorem pc_low_ex {x : Int32} (h : ∃ i, i < 32 ∧ bt x i = true) : ∃ i, i < 32 ∧ bt (x &&& (-x)) i = true := by
  obtain ⟨i, hi, hb⟩ := h
  induction i using Nat.strongRecOn with
  | ind i ih =>
    by_cases c : ∃ j, j < i ∧ bt x j = true
    · obtain ⟨j, hj, hjb⟩ := c
      exact ih j hj (by omega) hjb
    · refine ⟨i, hi, ?_⟩
      rw [b_and, pc_b_neg x hi, hb, decide_eq_false c]
      rfl
end
section
/-! own rows: the component's state by its numbers; levels -/
abbrev pc_XR (T M g wb nw : Nat) (ba ef du : Nat → Nat) (ho oF : Nat → Option Nat) (sn dp : Nat → Nat) (fi nx pv hm : Nat → Option Nat) (ky : Nat → Nat) (bu oc lva me : Nat → Int32) : SX :=
  (0, 1, nI T, nI M, nI g, lN wb, lN nw, fun j => nI (ba j), fun j => nI (ef j), fun j => nI (du j), fun j => pc_o (ho j), fun j => pc_o (oF j), fun j => lN (sn j), fun j => nI (dp j), fun j => pc_o (fi j), fun j => pc_o (nx j), fun j => pc_o (pv j), fun j => pc_o (hm j), fun j => lN (ky j), bu, oc, lva, me)
abbrev pc_X (T M g wb nw : Nat) (ba ef du : Nat → Nat) (ho oF : Nat → Option Nat) (sn dp : Nat → Nat) (fi nx pv hm : Nat → Option Nat) (ky : Nat → Nat) (lv : Nat → Option Nat) : SX :=
  (0, 1, nI T, nI M, nI g, lN wb, lN nw, fun j => nI (ba j), fun j => nI (ef j), fun j => nI (du j), fun j => pc_o (ho j), fun j => pc_o (oF j), fun j => lN (sn j), fun j => nI (dp j), fun j => pc_o (fi j), fun j => pc_o (nx j), fun j => pc_o (pv j), fun j => pc_o (hm j), fun j => lN (ky j), pc_BU lv, pc_OC lv, fun j => pc_o (lv j), pc_ME lv)
section
variable {f_staleSet f_readySet f_taskCount f_mutexCount f_margin : Int32} {f_waitsBegun f_now : Int64} {a_base a_eff a_due a_holder a_offered a_depth a_first a_next a_prev a_home a_bucket a_occupied a_levelOf a_members : Nat → Int32} {a_since a_key : Nat → Int64}
/-! leaveLevel and place, over the raw arrays -/
theorem px_leave {post : SX → Prop} {lv : Nat → Option Nat} {s t o : Nat} (hs : s < 2) (ht : t < 16) (ho : o < 32) (h : lv (16 * s + t) = some o)
    (H : post (f_staleSet, f_readySet, f_taskCount, f_mutexCount, f_margin, f_waitsBegun, f_now, a_base, a_eff, a_due, a_holder, a_offered, a_since, a_depth, a_first, a_next, a_prev, a_home, a_key, pc_BU (pc_u lv (16 * s + t) none), pc_OC (pc_u lv (16 * s + t) none), a_levelOf, pc_ME (pc_u lv (16 * s + t) none))) :
    wpX_leaveLevel post (f_staleSet, f_readySet, f_taskCount, f_mutexCount, f_margin, f_waitsBegun, f_now, a_base, a_eff, a_due, a_holder, a_offered, a_since, a_depth, a_first, a_next, a_prev, a_home, a_key, pc_BU lv, pc_OC lv, a_levelOf, pc_ME lv) (nI s) (nI t) (nI o) := by
  have i64 : vp_in (nI (32 * s + o)) 64 := vp_in_nI (by omega) (by decide)
  have i2 : vp_in (nI s) 2 := vp_in_nI hs (by decide)
  have cs : (nI s).toNatClampNeg = s := nI_clamp (by omega)
  have c64 : (nI (32 * s + o)).toNatClampNeg = 32 * s + o := nI_clamp (by omega)
  unfold wpX_leaveLevel
  refine nm_r (pc_m32 s o) ?_
  rw [c64]
  refine ⟨i64, i64, nm_r (pc_BU_rm hs ht ho h) ⟨i64, br_c (fun hz => ⟨i2, i2, ?_⟩) (fun hz => ?_)⟩⟩
  · rw [cs]
    refine nm_r (pc_OC_rm0 hs ht ho h hz) ?_
    unfold wX_leaveLevel_47
    rw [cs]
    exact ⟨i2, i2, nm_r (pc_ME_rm hs ht h) H⟩
  · unfold wX_leaveLevel_47
    rw [cs]
    rw [pc_OC_rm1 hs ht ho h hz] at H
    exact ⟨i2, i2, nm_r (pc_ME_rm hs ht h) H⟩
theorem px_place45 {post : SX → Prop} {lv : Nat → Option Nat} {s t : Nat} {v : Option Nat} (hs : s < 2) (ht : t < 16) (hv : ∀ l, v = some l → l < 32) (h : lv (16 * s + t) = none)
    (H : post (f_staleSet, f_readySet, f_taskCount, f_mutexCount, f_margin, f_waitsBegun, f_now, a_base, a_eff, a_due, a_holder, a_offered, a_since, a_depth, a_first, a_next, a_prev, a_home, a_key, pc_BU (pc_u lv (16 * s + t) v), pc_OC (pc_u lv (16 * s + t) v), a_levelOf, pc_ME (pc_u lv (16 * s + t) v))) :
    wX_place_45 post (nI s) (nI t) (pc_o v) f_staleSet f_readySet f_taskCount f_mutexCount f_margin f_waitsBegun f_now a_base a_eff a_due a_holder a_offered a_since a_depth a_first a_next a_prev a_home a_key (pc_BU lv) (pc_OC lv) a_levelOf (pc_ME lv) := by
  unfold wX_place_45
  cases v with
  | none =>
    rw [pc_u_self h] at H
    exact br_t pc_on H
  | some o =>
    have ho := hv o rfl
    have i64 : vp_in (nI (32 * s + o)) 64 := vp_in_nI (by omega) (by decide)
    have i2 : vp_in (nI s) 2 := vp_in_nI hs (by decide)
    have cs : (nI s).toNatClampNeg = s := nI_clamp (by omega)
    have c64 : (nI (32 * s + o)).toNatClampNeg = 32 * s + o := nI_clamp (by omega)
    refine br_f (pc_os (by omega)) ?_
    show vp_in (nI s * 32 + nI o) 64 ∧ (vp_in (nI s * 32 + nI o) 64 ∧ _)
    rw [show pc_o (some o) = nI o from rfl, pc_m32 s o, c64, cs]
    exact ⟨i64, i64, nm_r (pc_BU_ad hs ht ho h) ⟨i2, i2, nm_r (pc_OC_ad hs ht ho h) ⟨i2, i2, nm_r (pc_ME_ad hs ht h) H⟩⟩⟩
theorem px_place {post : SX → Prop} {lv : Nat → Option Nat} {s t j0 : Nat} {v : Option Nat} (hj : j0 = 16 * s + t) (hs : s < 2) (ht : t < 16) (hl : ∀ j l, j < 32 → lv j = some l → l < 32) (hv : ∀ l, v = some l → l < 32)
    (H : post (f_staleSet, f_readySet, f_taskCount, f_mutexCount, f_margin, f_waitsBegun, f_now, a_base, a_eff, a_due, a_holder, a_offered, a_since, a_depth, a_first, a_next, a_prev, a_home, a_key, (pc_BU (pc_u lv j0 v)), (pc_OC (pc_u lv j0 v)), (fun j => pc_o (pc_u lv j0 v j)), (pc_ME (pc_u lv j0 v)))) :
    wpX_place post (f_staleSet, f_readySet, f_taskCount, f_mutexCount, f_margin, f_waitsBegun, f_now, a_base, a_eff, a_due, a_holder, a_offered, a_since, a_depth, a_first, a_next, a_prev, a_home, a_key, (pc_BU lv), (pc_OC lv), (fun j => pc_o (lv j)), (pc_ME lv)) (nI s) (nI t) (pc_o v) := by
  subst hj
  have i32 : vp_in (nI (16 * s + t)) 32 := vp_in_nI (by omega) (by decide)
  have c32 : (nI (16 * s + t)).toNatClampNeg = 16 * s + t := nI_clamp (by omega)
  unfold wpX_place
  rw [pc_m16 s t, c32]
  refine ⟨i32, nm_r (e' := pc_o (lv (16 * s + t))) rfl ?_⟩
  by_cases e : lv (16 * s + t) = v
  · rw [pc_u_self e] at H
    exact br_t (congrArg pc_o e) H
  · have hne : ¬ pc_o (lv (16 * s + t)) = pc_o v := fun z => e (pc_oinj (fun n hn => Nat.lt_trans (hl _ n (by omega) hn) (by decide)) (fun n hn => Nat.lt_trans (hv n hn) (by decide)) z)
    refine br_f hne ⟨i32, nm_r (pc_uO lv _ v) ?_⟩
    cases ho : lv (16 * s + t) with
    | none => exact br_t pc_on (px_place45 hs ht hv ho H)
    | some o =>
      have hob := hl _ o (by omega) ho
      refine br_f (pc_os (by omega)) (px_leave hs ht hob ho ?_)
      refine px_place45 hs ht hv pc_us ?_
      rw [pc_uu]
      exact H
/-! highestBit -/
theorem px_hb {post : Int32 → Prop} {N : Nat} (H : ∀ r, 2 ^ r ≤ N → N < 2 ^ (r + 1) → post (nI r)) : ∀ (k n : Nat) (x : Int32) (p : Nat), k ≤ 5 → k < n → p + 2 ^ k ≤ 32 → 0 < x.toBitVec.toNat → x.toBitVec.toNat < 2 ^ 2 ^ k → N / 2 ^ p = x.toBitVec.toNat →
    wX_highestBit_8 post f_staleSet f_readySet f_taskCount f_mutexCount f_margin f_waitsBegun f_now a_base a_eff a_due a_holder a_offered a_since a_depth a_first a_next a_prev a_home a_key a_bucket a_occupied a_levelOf a_members n x (nI p) (nI (2 ^ k / 2))
  | 0, n + 1, x, p, _, _, _, h1, h2, h3 => by
    refine br_t (by decide) (H p ?_ ?_)
    · have h4 : N / 2 ^ p = 1 := by omega
      have := Nat.div_mul_le_self N (2 ^ p)
      rw [h4] at this; omega
    · have h4 : N / 2 ^ p < 2 := by omega
      have := (Nat.div_lt_iff_lt_mul (Nat.two_pow_pos p)).mp h4
      rw [Nat.pow_succ]; omega
  | k + 1, n + 1, x, p, hk, hn, hp, h1, h2, h3 => by
    have e1 : 2 ^ (k + 1) / 2 = 2 ^ k := by rw [Nat.pow_succ]; omega
    have hk2 : 2 ^ k ≤ 2 ^ 4 := Nat.pow_le_pow_right (by decide) (by omega)
    have hk0 : 0 < 2 ^ k := Nat.two_pow_pos k
    have hp' : p + (2 ^ k + 2 ^ k) ≤ 32 := by rw [Nat.pow_succ] at hp; omega
    have e2 : nI (2 ^ k) >>> ((1 : Int32) &&& 31) = nI (2 ^ k / 2) := by
      have := pk_shrN (n := 2 ^ k) (by omega) ((1 : Int32) &&& 31) 1 (by decide)
      rw [this]
    have e3 := pk_ushr x (nI (2 ^ k)) (2 ^ k) (s_u (2 ^ k) (by omega))
    rw [e1]
    refine br_f (nI_nle hk0 (by omega)) (br_c (fun hz => nm_r e2 ?_) (fun hz => nm_e (nm_r (nI_add p (2 ^ k)) (nm_r e2 ?_))))
    · have hz' : x.toBitVec.toNat / 2 ^ 2 ^ k = 0 := by
        rw [← e3, hz]; rfl
      have h4 : x.toBitVec.toNat < 2 ^ 2 ^ k := by
        rcases (Nat.div_eq_zero_iff).mp hz' with c | c
        · have := Nat.two_pow_pos (2 ^ k); omega
        · exact c
      exact px_hb H k n x p (by omega) (by omega) (by omega) h1 h4 h3
    · have hz' : 0 < x.toBitVec.toNat / 2 ^ 2 ^ k := by
        rcases Nat.eq_zero_or_pos (x.toBitVec.toNat / 2 ^ 2 ^ k) with c | c
        · exfalso
          apply hz
          apply Int32.toBitVec_inj.mp
          apply BitVec.eq_of_toNat_eq
          rw [e3, c]; rfl
        · exact c
      refine px_hb H k n _ (p + 2 ^ k) (by omega) (by omega) (by omega) ?_ ?_ ?_
      · rw [e3]; exact hz'
      · rw [e3]
        apply Nat.div_lt_of_lt_mul
        rw [← Nat.pow_add]
        have : 2 ^ k + 2 ^ k = 2 ^ (k + 1) := by rw [Nat.pow_succ]; omega
        rw [this]; exact h2
      · rw [e3, ← h3, Nat.div_div_eq_div_mul, Nat.pow_add]
theorem px_highestBit {post : Int32 → Prop} {x : Int32} (h : ∃ i, i < 32 ∧ bt x i = true) (H : ∀ r, r < 32 → bt x r = true → (∀ i, r < i → bt x i = false) → post (nI r)) :
    wpX_highestBit post (f_staleSet, f_readySet, f_taskCount, f_mutexCount, f_margin, f_waitsBegun, f_now, a_base, a_eff, a_due, a_holder, a_offered, a_since, a_depth, a_first, a_next, a_prev, a_home, a_key, a_bucket, a_occupied, a_levelOf, a_members) x := by
  obtain ⟨i, hi, hb⟩ := h
  refine ⟨6, px_hb (N := x.toBitVec.toNat) (fun r h1 h2 => ?_) 5 6 x 0 (by decide) (by decide) (by decide) (pc_pos hb) x.toBitVec.isLt (by rw [Nat.pow_zero, Nat.div_one])⟩
  obtain ⟨a, b, c⟩ := pc_bt_hi h1 h2
  exact H r a b c
theorem px_greatest {post : Int32 → Prop} {lv : Nat → Option Nat} {s : Nat} (hs : s < 2) (hl : ∀ j l, j < 32 → lv j = some l → l < 32) (H : ∀ G, pc_Gr lv s G → post (pc_o G)) :
    wpX_greatest post (f_staleSet, f_readySet, f_taskCount, f_mutexCount, f_margin, f_waitsBegun, f_now, a_base, a_eff, a_due, a_holder, a_offered, a_since, a_depth, a_first, a_next, a_prev, a_home, a_key, pc_BU lv, pc_OC lv, a_levelOf, a_members) (nI s) := by
  have i2 : vp_in (nI s) 2 := vp_in_nI hs (by decide)
  have cs : (nI s).toNatClampNeg = s := nI_clamp (by omega)
  have eo : pc_OC lv s = pc_bs (pc_an lv s) 32 := if_pos hs
  have bo : ∀ i, i < 32 → bt (pc_OC lv s) i = pc_an lv s i := fun i hi => by
    rw [eo, pc_bs_b hi (by decide), decide_eq_true hi, Bool.true_and]
  unfold wpX_greatest
  rw [cs]
  refine ⟨i2, br_c (fun hz => ?_) (fun hz => ⟨i2, ?_⟩)⟩
  · refine H none (Or.inl ⟨rfl, ?_⟩)
    intro t ht
    cases c : lv (16 * s + t) with
    | none => rfl
    | some l =>
      exfalso
      have hl' := hl _ l (by omega) c
      have b := bo l hl'
      rw [hz, b_0, (pc_an_t (lv := lv) (s := s) (l := l)).mpr ⟨t, ht, c⟩] at b
      exact nomatch b
  · refine px_highestBit (pc_bt_0 hz) (fun l hl' hb hh => ?_)
    rw [pc_m32 s l, nI_clamp (by omega : 32 * s + l < 2 ^ 31), pc_BU_at hs hl']
    refine ⟨vp_in_nI (by omega) (by decide), nm_e ?_⟩
    rw [bo l hl'] at hb
    obtain ⟨t0, ht0, hv0⟩ := pc_an_t.mp hb
    have bb : ∀ i, i < 32 → bt (pc_bs (fun t => decide (lv (16 * s + t) = some l)) 16) i = (decide (i < 16) && decide (lv (16 * s + i) = some l)) := fun i hi => pc_bs_b hi (by decide)
    refine px_highestBit (pc_low_ex ⟨t0, by omega, ?_⟩) (fun r hr hrb _ => ?_)
    · rw [bb t0 (by omega), decide_eq_true ht0, decide_eq_true hv0]; rfl
    · obtain ⟨h1, h2⟩ := pc_low hr hrb
      rw [bb r hr, Bool.and_eq_true] at h1
      have hr16 := of_decide_eq_true h1.1
      have hrv := of_decide_eq_true h1.2
      refine H (some r) (Or.inr ⟨r, l, rfl, hr16, hrv, ?_⟩)
      intro t' l' ht' hl2
      have hl32 := hl _ l' (by omega) hl2
      refine ⟨?_, ?_⟩
      · rcases Nat.lt_or_ge l l' with c | c
        · exfalso
          have := hh l' c
          rw [bo l' hl32, (pc_an_t (lv := lv) (s := s) (l := l')).mpr ⟨t', ht', hl2⟩] at this
          exact nomatch this
        · exact c
      · intro e
        subst e
        rcases Nat.lt_or_ge t' r with c | c
        · exfalso
          have := h2 t' c
          rw [bb t' (by omega), decide_eq_true ht', decide_eq_true hl2] at this
          exact nomatch this
        · exact c
end
end
section
/-! own rows: the component's lists -/
theorem pc_la_snoc {y : Nat} : ∀ (a : List Nat) (p : Option Nat), pc_la (a ++ [y]) p = some y
  | [], _ => rfl
  | _ :: r, _ => pc_la_snoc r _
theorem pc_ll_nb {ls : Nat → List Nat} {fi nx pv hm : Nat → Option Nat} {ky : Nat → Nat} (H : pc_LL ls fi nx pv hm ky) {n L : Nat} (hn : n < 48) (hL : hm n = some L) : (∀ x, pv n = some x → x < 48) ∧ (∀ x, nx n = some x → x < 48) := by
  have hL33 := (H.2.2 n L hn hL).1
  have hmem := (H.2.1 L n hL33).mpr ⟨hn, hL⟩
  obtain ⟨a, b, hab⟩ := List.append_of_mem hmem
  have hsg := (H.1 L hL33).2.1
  rw [hab] at hsg
  obtain ⟨hs1, hs2, hs3, hs4⟩ := (pc_sg_app a (n :: b) none none).mp hsg
  constructor
  · intro x hx
    rw [hs2] at hx
    exact ((H.2.1 L x hL33).mp (by rw [hab]; exact List.mem_append_left _ (pc_la_mem0 hx))).1
  · intro x hx
    rw [hs3] at hx
    exact ((H.2.1 L x hL33).mp (by rw [hab]; exact List.mem_append_right _ (List.mem_cons_of_mem _ (pc_hd_mem hx)))).1
section
variable {f_staleSet f_readySet f_taskCount f_mutexCount f_margin : Int32} {f_waitsBegun f_now : Int64} {a_base a_eff a_due a_holder a_offered a_depth a_first a_next a_prev a_home a_bucket a_occupied a_levelOf a_members : Nat → Int32} {a_since a_key : Nat → Int64} {fi nx pv : Nat → Option Nat}
theorem px_link {post : SX → Prop} {L : Nat} {l r : Option Nat} (hL : L < 33) (hl : ∀ x, l = some x → x < 48) (hr : ∀ x, r = some x → x < 48)
    (H : post (f_staleSet, f_readySet, f_taskCount, f_mutexCount, f_margin, f_waitsBegun, f_now, a_base, a_eff, a_due, a_holder, a_offered, a_since, a_depth, (fun j => pc_o (pc_lF fi L l r j)), (fun j => pc_o (pc_lN nx l r j)), (fun j => pc_o (pc_lP pv l r j)), a_home, a_key, a_bucket, a_occupied, a_levelOf, a_members)) :
    wpX_link post (f_staleSet, f_readySet, f_taskCount, f_mutexCount, f_margin, f_waitsBegun, f_now, a_base, a_eff, a_due, a_holder, a_offered, a_since, a_depth, (fun j => pc_o (fi j)), (fun j => pc_o (nx j)), (fun j => pc_o (pv j)), a_home, a_key, a_bucket, a_occupied, a_levelOf, a_members) (nI L) (pc_o l) (pc_o r) := by
  have iL : vp_in (nI L) 33 := vp_in_nI hL (by decide)
  unfold wpX_link
  cases l with
  | none =>
    refine br_t pc_on ⟨iL, nm_r (pc_cO (by omega)) ?_⟩
    unfold wX_link_21
    cases r with
    | none => exact br_t pc_on H
    | some y =>
      have hy := hr y rfl
      exact br_f (pc_os (by omega)) ⟨vp_in_nI hy (by decide), nm_r (pc_cO (v := none) (by omega)) H⟩
  | some x =>
    have hx := hl x rfl
    refine br_f (pc_os (by omega)) ⟨vp_in_nI hx (by decide), nm_r (pc_cO (by omega)) ?_⟩
    unfold wX_link_21
    cases r with
    | none => exact br_t pc_on H
    | some y =>
      have hy := hr y rfl
      exact br_f (pc_os (by omega)) ⟨vp_in_nI hy (by decide), nm_r (pc_cO (v := some x) (by omega)) H⟩
end
section
variable {T M g wb nw : Nat} {ba ef du sn dp ky : Nat → Nat} {ho oF fi nx pv hm lv : Nat → Option Nat}
theorem px_remove {post : SX → Prop} {n : Nat} (H : pc_L fi nx pv hm ky) (hn : n < 48)
    (K : ∀ fi' nx' pv', (∀ l, hm n ≠ some l → fi' l = fi l) → pc_L fi' nx' pv' (pc_u hm n none) ky → post (pc_X T M g wb nw ba ef du ho oF sn dp fi' nx' pv' (pc_u hm n none) ky lv)) :
    wpX_remove post (pc_X T M g wb nw ba ef du ho oF sn dp fi nx pv hm ky lv) (nI n) := by
  have i48 : vp_in (nI n) 48 := vp_in_nI hn (by decide)
  have cn : (nI n).toNatClampNeg = n := nI_clamp (by omega)
  unfold wpX_remove
  rw [cn]
  refine ⟨i48, nm_r (e' := pc_o (hm n)) rfl ?_⟩
  cases c : hm n with
  | none =>
    have := K fi nx pv (fun _ _ => rfl) (by rw [pc_u_self c]; exact H)
    rw [pc_u_self c] at this
    exact br_f pc_on' this
  | some L =>
    obtain ⟨ls, H⟩ := H
    have hL33 := (H.2.2 n L hn c).1
    obtain ⟨b1, b2⟩ := pc_ll_nb H hn c
    refine br_t (pc_os' (by omega)) ⟨i48, i48, px_link (l := pv n) (r := nx n) hL33 b1 b2 ?_⟩
    refine ⟨i48, nm_r (pc_uO hm n none) ?_⟩
    exact K _ _ _ (fun l hl => pc_lF_ne (fun e => hl (by rw [c, e]))) ⟨_, pc_ll_rem H hn c⟩
theorem px_ins57 {post : SX → Prop} {ls : Nat → List Nat} {L n k : Nat} {a b : List Nat} (H : pc_LL ls fi nx pv hm ky) (hL : L < 33) (hn : n < 48) (hc : n / 16 = L / 16) (hno : hm n = none)
    (hab : ls L = a ++ b) (hka : ∀ x ∈ a, ky x ≤ k) (hkb : ∀ x ∈ b, k < ky x)
    (K : ∀ fi' nx' pv', (∀ l, l ≠ L → fi' l = fi l) → pc_L fi' nx' pv' (pc_u hm n (some L)) (pc_u ky n k) → post (pc_X T M g wb nw ba ef du ho oF sn dp fi' nx' pv' (pc_u hm n (some L)) (pc_u ky n k) lv)) :
    wX_insert_57 post (nI L) (nI n) (lN k) (pc_o (pc_la a none)) (pc_o (pc_hd b none)) 0 1 (nI T) (nI M) (nI g) (lN wb) (lN nw) (fun j => nI (ba j)) (fun j => nI (ef j)) (fun j => nI (du j)) (fun j => pc_o (ho j)) (fun j => pc_o (oF j)) (fun j => lN (sn j)) (fun j => nI (dp j)) (fun j => pc_o (fi j)) (fun j => pc_o (nx j)) (fun j => pc_o (pv j)) (fun j => pc_o (hm j)) (fun j => lN (ky j)) (pc_BU lv) (pc_OC lv) (fun j => pc_o (lv j)) (pc_ME lv) := by
  have i48 : vp_in (nI n) 48 := vp_in_nI hn (by decide)
  have hb : ∀ x ∈ ls L, x < 48 := fun x hx => ((H.2.1 L x hL).mp hx).1
  unfold wX_insert_57
  refine ⟨i48, nm_r (pc_cL (by omega)) ⟨i48, nm_r (pc_cO (v := some L) (by omega)) ?_⟩⟩
  refine px_link (fi := fi) (nx := nx) (pv := pv) (l := pc_la a none) (r := some n) hL (fun x hx => hb x (by rw [hab]; exact List.mem_append_left _ (pc_la_mem0 hx))) (fun x hx => by have := Option.some.inj hx; omega) ?_
  refine px_link (l := some n) (r := pc_hd b none) hL (fun x hx => by have := Option.some.inj hx; omega) (fun x hx => hb x (by rw [hab]; exact List.mem_append_right _ (pc_hd_mem hx))) ?_
  exact K _ _ _ (fun l hl => (pc_lF_ne (l := some n) hl).trans (pc_lF_ne hl)) ⟨_, pc_ll_ins H hn hL hc hno hab hka hkb⟩
theorem px_ins14 {post : SX → Prop} {ls : Nat → List Nat} {L n k : Nat} (H : pc_LL ls fi nx pv hm ky) (hL : L < 33) (hk : k < 2 ^ 63) (hky : ∀ x ∈ ls L, ky x < 2 ^ 63)
    (K : ∀ a b, ls L = a ++ b → (∀ x ∈ a, ky x ≤ k) → (∀ x ∈ b, k < ky x) → wX_insert_57 post (nI L) (nI n) (lN k) (pc_o (pc_la a none)) (pc_o (pc_hd b none)) 0 1 (nI T) (nI M) (nI g) (lN wb) (lN nw) (fun j => nI (ba j)) (fun j => nI (ef j)) (fun j => nI (du j)) (fun j => pc_o (ho j)) (fun j => pc_o (oF j)) (fun j => lN (sn j)) (fun j => nI (dp j)) (fun j => pc_o (fi j)) (fun j => pc_o (nx j)) (fun j => pc_o (pv j)) (fun j => pc_o (hm j)) (fun j => lN (ky j)) (pc_BU lv) (pc_OC lv) (fun j => pc_o (lv j)) (pc_ME lv)) :
    ∀ (b a : List Nat) (f : Nat), ls L = a ++ b → (∀ x ∈ a, ky x ≤ k) → b.length < f → wX_insert_14 post (nI L) (nI n) (lN k) 0 1 (nI T) (nI M) (nI g) (lN wb) (lN nw) (fun j => nI (ba j)) (fun j => nI (ef j)) (fun j => nI (du j)) (fun j => pc_o (ho j)) (fun j => pc_o (oF j)) (fun j => lN (sn j)) (fun j => nI (dp j)) (fun j => pc_o (fi j)) (fun j => pc_o (nx j)) (fun j => pc_o (pv j)) (fun j => pc_o (hm j)) (fun j => lN (ky j)) (pc_BU lv) (pc_OC lv) (fun j => pc_o (lv j)) (pc_ME lv) f (pc_o (pc_la a none)) (pc_o (pc_hd b none)) (nI a.length)
  | [], a, f + 1, hab, hka, hf => by
    have hx := K a [] hab hka (fun x hx => nomatch hx)
    exact br_c (fun _ => hx) (fun _ => br_t pc_on hx)
  | y :: r, a, f + 1, hab, hka, hf => by
    have hlen := pc_ll_len H hL
    rw [hab, List.length_append, List.length_cons] at hlen
    have hym : y ∈ ls L := by rw [hab]; exact List.mem_append_right _ List.mem_cons_self
    have hy : y < 48 := ((H.2.1 L y hL).mp hym).1
    have cy : (pc_o (some y)).toNatClampNeg = y := nI_clamp (by omega)
    have iy : vp_in (pc_o (some y)) 48 := vp_in_nI hy (by decide)
    have hsg := (H.1 L hL).2.1
    have hpw := (H.1 L hL).2.2.2
    rw [hab] at hsg hpw
    have hs2 := ((pc_sg_app a (y :: r) none none).mp hsg).2
    have hp2 := (List.pairwise_cons.mp (List.pairwise_append.mp hpw).2.1).1
    refine br_f (nI_ge (b := 16) (by omega) (by decide)) (br_f (pc_os (by omega)) ⟨iy, ?_⟩)
    rw [show pc_hd (y :: r) none = some y from rfl, cy]
    by_cases c : k < ky y
    · refine br_t ((pk_lLT hk (hky y hym)).mpr c) ?_
      refine K a (y :: r) hab hka (fun x hx => ?_)
      rcases List.mem_cons.mp hx with e | e
      · rw [e]; exact c
      · exact Nat.lt_of_lt_of_le c (hp2 x e)
    · refine br_f (fun z => c ((pk_lLT hk (hky y hym)).mp z)) ⟨iy, nm_r (e' := pc_o (pc_hd r none)) (congrArg pc_o hs2.2.1) (nm_r (nI_1 a.length) ?_)⟩
      have ih := px_ins14 H hL hk hky K r (a ++ [y]) f (by rw [hab, List.append_assoc]; rfl) (fun x hx => by
        rcases List.mem_append.mp hx with e | e
        · exact hka x e
        · rw [List.mem_singleton.mp e]; omega) (by rw [List.length_cons] at hf; omega)
      rw [pc_la_snoc, List.length_append] at ih
      exact ih
theorem px_insert {post : SX → Prop} {L n k : Nat} (H : pc_L fi nx pv hm ky) (hL : L < 33) (hn : n < 48) (hc : n / 16 = L / 16) (hno : hm n = none) (hk : k < 2 ^ 63) (hky : ∀ x, x < 48 → hm x = some L → ky x < 2 ^ 63)
    (K : ∀ fi' nx' pv', (∀ l, l ≠ L → fi' l = fi l) → pc_L fi' nx' pv' (pc_u hm n (some L)) (pc_u ky n k) → post (pc_X T M g wb nw ba ef du ho oF sn dp fi' nx' pv' (pc_u hm n (some L)) (pc_u ky n k) lv)) :
    wpX_insert post (pc_X T M g wb nw ba ef du ho oF sn dp fi nx pv hm ky lv) (nI L) (nI n) (lN k) := by
  obtain ⟨ls, H⟩ := H
  unfold wpX_insert
  have cL : (nI L).toNatClampNeg = L := nI_clamp (by omega)
  rw [cL]
  refine ⟨vp_in_nI hL (by decide), nm_r (e' := pc_o (pc_hd (ls L) none)) (congrArg pc_o (H.1 L hL).1) ⟨(ls L).length + 1, ?_⟩⟩
  exact px_ins14 H hL hk (fun x hx => hky x ((H.2.1 L x hL).mp hx).1 ((H.2.1 L x hL).mp hx).2) (fun a b hab hka hkb => px_ins57 H hL hn hc hno hab hka hkb K) (ls L) [] _ rfl (fun x hx => nomatch hx) (by omega)
/-! refreshReady, refreshDue -/
def pc_rd (hm oF : Nat → Option Nat) (ef : Nat → Nat) (t : Nat) : Option Nat := match hm t with
  | none => some (ef t)
  | some m => if oF m = some t then some (ef t) else none
def pc_dl (d e : Nat) : Option Nat := if d = e then none else some d
def pc_dd (ba : Nat → Nat) (fi : Nat → Option Nat) (ky : Nat → Nat) (t : Nat) : Nat := match fi (16 + t) with
  | none => ba t
  | some n => if 31 - ky n ≤ ba t then ba t else 31 - ky n
theorem pc_rd_b {hm oF : Nat → Option Nat} {ef : Nat → Nat} {t l : Nat} (h : pc_rd hm oF ef t = some l) : l = ef t := by
  unfold pc_rd at h
  split at h
  · exact (Option.some.inj h).symm
  · split at h
    · exact (Option.some.inj h).symm
    · exact nomatch h
theorem pc_dl_b {d e l : Nat} (h : pc_dl d e = some l) : l = d := by
  unfold pc_dl at h
  split at h
  · exact nomatch h
  · exact (Option.some.inj h).symm
theorem px_rr26 {post : SX → Prop} {t : Nat} (ht : t < 16) (he : ef t < 32) (hl : ∀ j l, j < 32 → lv j = some l → l < 32)
    (K : post (pc_X T M g wb nw ba ef du ho oF sn dp fi nx pv hm ky (pc_u lv (16 + t) (some (ef t))))) : wX_refreshReady_26 post (nI t) 1 0 1 (nI T) (nI M) (nI g) (lN wb) (lN nw) (fun j => nI (ba j)) (fun j => nI (ef j)) (fun j => nI (du j)) (fun j => pc_o (ho j)) (fun j => pc_o (oF j)) (fun j => lN (sn j)) (fun j => nI (dp j)) (fun j => pc_o (fi j)) (fun j => pc_o (nx j)) (fun j => pc_o (pv j)) (fun j => pc_o (hm j)) (fun j => lN (ky j)) (pc_BU lv) (pc_OC lv) (fun j => pc_o (lv j)) (pc_ME lv) := by
  unfold wX_refreshReady_26
  refine br_f (by decide) ⟨vp_in_nI ht (by decide), ?_⟩
  unfold wX_refreshReady_44
  rw [nI_clamp (by omega : t < 2 ^ 31)]
  exact px_place (s := 1) (t := t) (j0 := 16 + t) (v := some (ef t)) (by omega) (by decide) ht hl (fun l h => by have := Option.some.inj h; omega) K
theorem px_rr26n {post : SX → Prop} {t : Nat} (ht : t < 16) (hl : ∀ j l, j < 32 → lv j = some l → l < 32)
    (K : post (pc_X T M g wb nw ba ef du ho oF sn dp fi nx pv hm ky (pc_u lv (16 + t) none))) : wX_refreshReady_26 post (nI t) 0 0 1 (nI T) (nI M) (nI g) (lN wb) (lN nw) (fun j => nI (ba j)) (fun j => nI (ef j)) (fun j => nI (du j)) (fun j => pc_o (ho j)) (fun j => pc_o (oF j)) (fun j => lN (sn j)) (fun j => nI (dp j)) (fun j => pc_o (fi j)) (fun j => pc_o (nx j)) (fun j => pc_o (pv j)) (fun j => pc_o (hm j)) (fun j => lN (ky j)) (pc_BU lv) (pc_OC lv) (fun j => pc_o (lv j)) (pc_ME lv) := by
  unfold wX_refreshReady_26
  refine br_t (by decide) ?_
  unfold wX_refreshReady_44
  exact px_place (s := 1) (t := t) (j0 := 16 + t) (v := none) (by omega) (by decide) ht hl (fun l h => nomatch h) K
theorem px_refreshReady {post : SX → Prop} {t : Nat} (ht : t < 16) (he : ef t < 32) (hl : ∀ j l, j < 32 → lv j = some l → l < 32) (hh : ∀ m, hm t = some m → m < 16) (hoo : ∀ m x, hm t = some m → oF m = some x → x < 16)
    (K : post (pc_X T M g wb nw ba ef du ho oF sn dp fi nx pv hm ky (pc_u lv (16 + t) (pc_rd hm oF ef t)))) : wpX_refreshReady post (pc_X T M g wb nw ba ef du ho oF sn dp fi nx pv hm ky lv) (nI t) := by
  unfold wpX_refreshReady
  rw [nI_clamp (by omega : t < 2 ^ 31)]
  refine ⟨vp_in_nI (by omega) (by decide), nm_r (e' := pc_o (hm t)) rfl ?_⟩
  unfold pc_rd at K
  cases c : hm t with
  | none =>
    rw [c] at K
    refine br_t pc_on ?_
    unfold wX_refreshReady_21
    exact px_rr26 ht he hl K
  | some m =>
    rw [c] at K
    have hm16 := hh m c
    have cm : (pc_o (some m)).toNatClampNeg = m := nI_clamp (by omega)
    refine br_f (pc_os (by omega)) ⟨vp_in_nI hm16 (by decide), ?_⟩
    rw [cm]
    by_cases e : oF m = some t
    · rw [show (match some m with | none => some (ef t) | some m => if oF m = some t then some (ef t) else none) = some (ef t) from if_pos e] at K
      refine br_t (congrArg pc_o e) ?_
      unfold wX_refreshReady_21
      exact px_rr26 ht he hl K
    · rw [show (match some m with | none => some (ef t) | some m => if oF m = some t then some (ef t) else none) = none from if_neg e] at K
      refine br_f (fun z => e (pc_oinj (b := some t) (fun n hn => Nat.lt_trans (hoo m n c hn) (by decide)) (fun n hn => by have := Option.some.inj hn; omega) z)) ?_
      exact px_rr26n ht hl K
theorem px_rd46 {post : SX → Prop} {t d : Nat} (ht : t < 16) (hd : d < 32) (he : ef t < 32) (hl : ∀ j l, j < 32 → lv j = some l → l < 32)
    (K : post (pc_X T M g wb nw ba ef (pc_u du t d) ho oF sn dp fi nx pv hm ky (pc_u lv t (pc_dl d (ef t))))) : wX_refreshDue_46 post (nI t) (nI d) 0 1 (nI T) (nI M) (nI g) (lN wb) (lN nw) (fun j => nI (ba j)) (fun j => nI (ef j)) (fun j => nI (du j)) (fun j => pc_o (ho j)) (fun j => pc_o (oF j)) (fun j => lN (sn j)) (fun j => nI (dp j)) (fun j => pc_o (fi j)) (fun j => pc_o (nx j)) (fun j => pc_o (pv j)) (fun j => pc_o (hm j)) (fun j => lN (ky j)) (pc_BU lv) (pc_OC lv) (fun j => pc_o (lv j)) (pc_ME lv) := by
  have it : vp_in (nI t) 16 := vp_in_nI ht (by decide)
  unfold wX_refreshDue_46
  refine ⟨it, nm_r (pc_cI (by omega)) ⟨it, ?_⟩⟩
  rw [nI_clamp (by omega : t < 2 ^ 31)]
  unfold pc_dl at K
  by_cases e : d = ef t
  · rw [if_pos e] at K
    refine br_t (congrArg nI e) ?_
    unfold wX_refreshDue_71
    exact px_place (s := 0) (t := t) (j0 := t) (v := none) (by omega) (by decide) ht hl (fun l h => nomatch h) K
  · rw [if_neg e] at K
    refine br_f (fun z => e ((nI_eq (by omega) (by omega)).mp z)) ?_
    unfold wX_refreshDue_71
    exact px_place (s := 0) (t := t) (j0 := t) (v := some d) (by omega) (by decide) ht hl (fun l h => by have := Option.some.inj h; omega) K
theorem px_refreshDue {post : SX → Prop} {t : Nat} (ht : t < 16) (hb : ba t < 32) (he : ef t < 32) (hl : ∀ j l, j < 32 → lv j = some l → l < 32) (hf : ∀ n, fi (16 + t) = some n → n < 48 ∧ ky n ≤ 31)
    (K : post (pc_X T M g wb nw ba ef (pc_u du t (pc_dd ba fi ky t)) ho oF sn dp fi nx pv hm ky (pc_u lv t (pc_dl (pc_dd ba fi ky t) (ef t))))) : wpX_refreshDue post (pc_X T M g wb nw ba ef du ho oF sn dp fi nx pv hm ky lv) (nI t) := by
  unfold wpX_refreshDue
  rw [pc_16 t, nI_clamp (by omega : t < 2 ^ 31), nI_clamp (by omega : 16 + t < 2 ^ 31)]
  refine ⟨vp_in_nI ht (by decide), nm_r (e' := nI (ba t)) rfl ⟨vp_in_nI (by omega) (by decide), nm_r (e' := pc_o (fi (16 + t))) rfl ?_⟩⟩
  cases c : fi (16 + t) with
  | none =>
    have e : pc_dd ba fi ky t = ba t := by unfold pc_dd; rw [c]
    rw [e] at K
    exact br_t pc_on (px_rd46 ht hb he hl K)
  | some n =>
    obtain ⟨h1, h2⟩ := hf n c
    have cn : (pc_o (some n)).toNatClampNeg = n := nI_clamp (by omega)
    have e : pc_dd ba fi ky t = if 31 - ky n ≤ ba t then ba t else 31 - ky n := by unfold pc_dd; rw [c]
    have e31 : (31 : Int32) - (lN (ky n)).toInt32 = nI (31 - ky n) := by
      rw [lN_i]; exact pk_sub (a := 31) h2
    refine br_f (pc_os (by omega)) ⟨vp_in_nI h1 (by decide), ?_⟩
    rw [cn]
    refine nm_r e31 ?_
    by_cases g : 31 - ky n ≤ ba t
    · rw [e, if_pos g] at K
      refine br_t ((nI_leI (by omega) (by omega)).mpr g) ?_
      unfold wX_refreshDue_45
      exact px_rd46 ht hb he hl K
    · rw [e, if_neg g] at K
      refine br_f (fun z => g ((nI_leI (by omega) (by omega)).mp z)) ?_
      unfold wX_refreshDue_45
      exact px_rd46 ht (by omega) he hl K
end
end
section
/-! own rows: the component's invariant, with exceptions: E for due, R for ready, A for the owners' nodes, B for the offers -/
def pc_RG (T M : Nat) (ba ef du : Nat → Nat) (ho oF : Nat → Option Nat) (sn : Nat → Nat) : Prop :=
  T ≤ 16 ∧ M ≤ 16 ∧ (∀ t, t < 16 → ba t < 32 ∧ ef t < 32 ∧ du t < 32 ∧ sn t < 2 ^ 58) ∧ (∀ m o, m < 16 → ho m = some o → o < T) ∧ (∀ m x, m < 16 → oF m = some x → x < T)
def pc_QI (T M : Nat) (ef sn : Nat → Nat) (hm : Nat → Option Nat) (ky : Nat → Nat) : Prop :=
  (∀ t m, t < 16 → hm t = some m → t < T ∧ m < M ∧ ky t = (31 - ef t) * 2 ^ 58 + sn t) ∧
  (∀ m l, m < 16 → hm (16 + m) = some l → ky (16 + m) ≤ 31 ∧ l < 16 + T) ∧
  (∀ s t m, s < 16 → t < 16 → hm s = some m → hm t = some m → sn s = sn t → s = t) ∧
  (∀ t, t < 16 → hm (32 + t) ≠ none → hm t ≠ none ∧ ky (32 + t) < 2 ^ 62)
def pc_CO (ef : Nat → Nat) (ho fi hm : Nat → Option Nat) (ky : Nat → Nat) (m : Nat) : Prop :=
  (∀ o x, ho m = some o → fi m = some x → hm (16 + m) = some (16 + o) ∧ ky (16 + m) = 31 - ef x) ∧ (ho m = none → hm (16 + m) = none) ∧ (fi m = none → hm (16 + m) = none)
def pc_CF (ho oF fi : Nat → Option Nat) (m : Nat) : Prop := (ho m = none → oF m = fi m) ∧ (ho m ≠ none → oF m = none)
def pc_CD (ba ef du : Nat → Nat) (fi : Nat → Option Nat) (ky : Nat → Nat) (lv : Nat → Option Nat) (t : Nat) : Prop := du t = pc_dd ba fi ky t ∧ lv t = pc_dl (du t) (ef t)
def pc_CR (ef : Nat → Nat) (oF hm lv : Nat → Option Nat) (t : Nat) : Prop := lv (16 + t) = pc_rd hm oF ef t
def pc_XI (E R A B : Nat → Prop) (T M : Nat) (ba ef du : Nat → Nat) (ho oF : Nat → Option Nat) (sn : Nat → Nat) (fi nx pv hm : Nat → Option Nat) (ky : Nat → Nat) (lv : Nat → Option Nat) : Prop :=
  pc_L fi nx pv hm ky ∧ pc_RG T M ba ef du ho oF sn ∧ pc_QI T M ef sn hm ky ∧ pc_LV T lv ∧
  (∀ m, m < 16 → ¬ A m → pc_CO ef ho fi hm ky m) ∧ (∀ m, m < 16 → ¬ B m → pc_CF ho oF fi m) ∧
  (∀ t, t < T → ¬ E t → pc_CD ba ef du fi ky lv t) ∧ (∀ t, t < T → ¬ R t → pc_CR ef oF hm lv t)
abbrev pc_0 : Nat → Prop := fun _ => False
section
variable {T M g wb nw : Nat} {ba ef du sn dp ky : Nat → Nat} {ho oF fi nx pv hm lv : Nat → Option Nat} {E R A B : Nat → Prop}
theorem pi_mono {E' R' A' B' : Nat → Prop} (hE : ∀ t, t < T → E t → E' t) (hR : ∀ t, t < T → R t → R' t) (hA : ∀ t, A t → A' t) (hB : ∀ t, B t → B' t) (I : (pc_XI E R A B T M ba ef du ho oF sn fi nx pv hm ky lv)) : (pc_XI E' R' A' B' T M ba ef du ho oF sn fi nx pv hm ky lv) := by
  obtain ⟨i1, i2, i3, i4, i5, i6, i7, i8⟩ := I
  exact ⟨i1, i2, i3, i4, fun m hm' z => i5 m hm' (fun y => z (hA m y)), fun m hm' z => i6 m hm' (fun y => z (hB m y)), fun t ht z => i7 t ht (fun y => z (hE t ht y)), fun t ht z => i8 t ht (fun y => z (hR t ht y))⟩
theorem pc_dd_b {t : Nat} (h : ba t < 32) : pc_dd ba fi ky t < 32 := by
  unfold pc_dd
  split
  · exact h
  · split
    · exact h
    · omega
theorem pc_dd_c {fi' : Nat → Option Nat} {ky' : Nat → Nat} {t : Nat} (h1 : fi' (16 + t) = fi (16 + t)) (h2 : ∀ n, fi (16 + t) = some n → ky' n = ky n) : pc_dd ba fi' ky' t = pc_dd ba fi ky t := by
  unfold pc_dd
  rw [h1]
  cases c : fi (16 + t) with
  | none => rfl
  | some n => dsimp only; rw [h2 n c]
theorem pc_rd_c {hm' oF' : Nat → Option Nat} {ef' : Nat → Nat} {t : Nat} (h1 : hm' t = hm t) (h2 : ef' t = ef t) (h3 : ∀ m, hm t = some m → (oF' m = some t ↔ oF m = some t)) : pc_rd hm' oF' ef' t = pc_rd hm oF ef t := by
  unfold pc_rd
  rw [h1, h2]
  cases c : hm t with
  | none => rfl
  | some m =>
    show (if oF' m = some t then some (ef t) else none) = (if oF m = some t then some (ef t) else none)
    by_cases e : oF m = some t
    · rw [if_pos e, if_pos ((h3 m c).mpr e)]
    · rw [if_neg e, if_neg (fun z => e ((h3 m c).mp z))]
theorem pi_16 (I : (pc_XI E R A B T M ba ef du ho oF sn fi nx pv hm ky lv)) {t n : Nat} (ht : t < 16) (h : fi (16 + t) = some n) : n < 48 ∧ ky n ≤ 31 ∧ ∃ m, m < 16 ∧ n = 16 + m ∧ hm (16 + m) = some (16 + t) := by
  obtain ⟨i1, i2, i3, i4, i5, i6, i7, i8⟩ := I
  obtain ⟨a, b, _⟩ := pc_L_some i1 (by omega) h
  have c := pc_L_cls i1 a b
  have e : n = 16 + (n - 16) := by omega
  refine ⟨a, ?_, n - 16, by omega, e, e ▸ b⟩
  have := (i3.2.1 (n - 16) (16 + t) (by omega) (e ▸ b)).1
  rw [← e] at this
  exact this
theorem pi_top (I : (pc_XI E R A B T M ba ef du ho oF sn fi nx pv hm ky lv)) {m x : Nat} (hm' : m < 16) (h : fi m = some x) : x < 16 ∧ x < T ∧ hm x = some m := by
  obtain ⟨i1, i2, i3, i4, i5, i6, i7, i8⟩ := I
  obtain ⟨a, b, _⟩ := pc_L_some i1 (by omega) h
  have c := pc_L_cls i1 a b
  exact ⟨by omega, (i3.1 x m (by omega) b).1, b⟩
theorem pi_m16 (I : (pc_XI E R A B T M ba ef du ho oF sn fi nx pv hm ky lv)) {t m : Nat} (ht : t < 16) (h : hm t = some m) : m < 16 ∧ t < T ∧ m < M := by
  have a := pc_L_cls I.1 (n := t) (by omega) h
  have b := I.2.2.1.1 t m ht h
  omega
theorem pi_due (I : (pc_XI E R A B T M ba ef du ho oF sn fi nx pv hm ky lv)) {t : Nat} (ht : t < T) : (pc_XI (fun x => E x ∧ x ≠ t) R A B T M ba ef (pc_u du t (pc_dd ba fi ky t)) ho oF sn fi nx pv hm ky (pc_u lv t (pc_dl (pc_dd ba fi ky t) (ef t)))) := by
  obtain ⟨i1, ⟨r1, r2, r3, r4, r5⟩, i3, i4, i5, i6, i7, i8⟩ := I
  have hb := pc_dd_b (fi := fi) (ky := ky) (r3 t (by omega)).1
  refine ⟨i1, ⟨r1, r2, ?_, r4, r5⟩, i3, pc_LV_u0 r1 i4 ht (fun l hl => by rw [pc_dl_b hl]; exact hb), i5, i6, ?_, ?_⟩
  · intro x hx
    have h := r3 x hx
    by_cases e : x = t
    · subst e; rw [pc_us]; exact ⟨h.1, h.2.1, hb, h.2.2.2⟩
    · rw [pc_un e]; exact h
  · intro x hx hE
    unfold pc_CD
    by_cases e : x = t
    · subst e; rw [pc_us, pc_us]; exact ⟨rfl, rfl⟩
    · rw [pc_un e, pc_un e]; exact i7 x hx (fun z => hE ⟨z, e⟩)
  · intro x hx hR
    unfold pc_CR
    rw [pc_un (by omega)]
    exact i8 x hx hR
theorem px_due {post : SX → Prop} {t : Nat} (I : (pc_XI E R A B T M ba ef du ho oF sn fi nx pv hm ky lv)) (ht : t < T) (K : ∀ du' lv', (pc_XI (fun x => E x ∧ x ≠ t) R A B T M ba ef du' ho oF sn fi nx pv hm ky lv') → post (pc_X T M g wb nw ba ef du' ho oF sn dp fi nx pv hm ky lv')) : wpX_refreshDue post (pc_X T M g wb nw ba ef du ho oF sn dp fi nx pv hm ky lv) (nI t) := by
  have hr := I.2.1
  have h16 : t < 16 := Nat.lt_of_lt_of_le ht hr.1
  have h := hr.2.2.1 t h16
  exact px_refreshDue h16 h.1 h.2.1 I.2.2.2.1.1 (fun n hn => ⟨(pi_16 I h16 hn).1, (pi_16 I h16 hn).2.1⟩) (K _ _ (pi_due I ht))
theorem pi_rdy (I : (pc_XI E R A B T M ba ef du ho oF sn fi nx pv hm ky lv)) {t : Nat} (ht : t < T) : (pc_XI E (fun x => R x ∧ x ≠ t) A B T M ba ef du ho oF sn fi nx pv hm ky (pc_u lv (16 + t) (pc_rd hm oF ef t))) := by
  obtain ⟨i1, ⟨r1, r2, r3, r4, r5⟩, i3, i4, i5, i6, i7, i8⟩ := I
  refine ⟨i1, ⟨r1, r2, r3, r4, r5⟩, i3, pc_LV_u1 r1 i4 ht (fun l hl => by rw [pc_rd_b hl]; exact (r3 t (by omega)).2.1), i5, i6, ?_, ?_⟩
  · intro x hx hE
    unfold pc_CD
    rw [pc_un (by omega : x ≠ 16 + t)]
    exact i7 x hx hE
  · intro x hx hR
    unfold pc_CR
    by_cases e : x = t
    · subst e; rw [pc_us]
    · rw [pc_un (by omega)]
      exact i8 x hx (fun z => hR ⟨z, e⟩)
theorem px_rdy {post : SX → Prop} {t : Nat} (I : (pc_XI E R A B T M ba ef du ho oF sn fi nx pv hm ky lv)) (ht : t < T) (K : ∀ lv', (pc_XI E (fun x => R x ∧ x ≠ t) A B T M ba ef du ho oF sn fi nx pv hm ky lv') → post (pc_X T M g wb nw ba ef du ho oF sn dp fi nx pv hm ky lv')) : wpX_refreshReady post (pc_X T M g wb nw ba ef du ho oF sn dp fi nx pv hm ky lv) (nI t) := by
  have hr := I.2.1
  have h16 : t < 16 := Nat.lt_of_lt_of_le ht hr.1
  refine px_refreshReady h16 (hr.2.2.1 t h16).2.1 I.2.2.2.1.1 (fun m hm' => (pi_m16 I h16 hm').1) (fun m x hm' hx => ?_) (K _ (pi_rdy I ht))
  have := hr.2.2.2.2 m x (pi_m16 I h16 hm').1 hx
  have := hr.1
  omega
/-! moveOffer -/
theorem pi_offer {m : Nat} {x : Option Nat} (I : (pc_XI E R A (fun y => y = m) T M ba ef du ho oF sn fi nx pv hm ky lv)) (hm' : m < 16) (h1 : ho m = none → x = fi m) (h2 : ho m ≠ none → x = none) :
    (pc_XI E (fun t => R t ∨ oF m = some t ∨ x = some t) A pc_0 T M ba ef du ho (pc_u oF m x) sn fi nx pv hm ky lv) := by
  have htop : ∀ y, x = some y → y < T := fun y hy => by
    cases c : ho m with
    | none => exact (pi_top I hm' ((h1 c).symm.trans hy)).2.1
    | some o => rw [h2 (by rw [c]; exact fun z => nomatch z)] at hy; exact nomatch hy
  obtain ⟨i1, ⟨r1, r2, r3, r4, r5⟩, i3, i4, i5, i6, i7, i8⟩ := I
  refine ⟨i1, ⟨r1, r2, r3, r4, ?_⟩, i3, i4, i5, ?_, i7, ?_⟩
  · intro m' y hm2 hy
    by_cases e : m' = m
    · rw [e, pc_us] at hy; exact htop y hy
    · rw [pc_un e] at hy; exact r5 m' y hm2 hy
  · intro m' hm2 _
    unfold pc_CF
    by_cases e : m' = m
    · subst e; rw [pc_us]; exact ⟨h1, h2⟩
    · rw [pc_un e]; exact i6 m' hm2 e
  · intro t ht hR
    unfold pc_CR
    rw [i8 t ht (fun z => hR (Or.inl z))]
    refine (pc_rd_c rfl rfl (fun m' _ => ?_)).symm
    by_cases e : m' = m
    · subst e; rw [pc_us]
      exact ⟨fun z => absurd (Or.inr (Or.inr z)) hR, fun z => absurd (Or.inr (Or.inl z)) hR⟩
    · rw [pc_un e]
theorem px_moveOffer {post : SX → Prop} {m : Nat} {x : Option Nat} (I : (pc_XI E R A (fun y => y = m) T M ba ef du ho oF sn fi nx pv hm ky lv)) (hm' : m < 16) (h1 : ho m = none → x = fi m) (h2 : ho m ≠ none → x = none)
    (K : ∀ oF' lv', (pc_XI E R A pc_0 T M ba ef du ho oF' sn fi nx pv hm ky lv') → post (pc_X T M g wb nw ba ef du ho oF' sn dp fi nx pv hm ky lv')) : wpX_moveOffer post (pc_X T M g wb nw ba ef du ho oF sn dp fi nx pv hm ky lv) (nI m) (pc_o x) := by
  have hT := I.2.1.1
  have htop : ∀ y, x = some y → y < T := fun y hy => by
    cases c : ho m with
    | none => exact (pi_top I hm' ((h1 c).symm.trans hy)).2.1
    | some o => rw [h2 (by rw [c]; exact fun z => nomatch z)] at hy; exact nomatch hy
  have hold : ∀ y, oF m = some y → y < T := fun y hy => I.2.1.2.2.2.2 m y hm' hy
  have J := pi_offer I hm' h1 h2
  unfold wpX_moveOffer
  rw [nI_clamp (by omega : m < 2 ^ 31)]
  refine ⟨vp_in_nI hm' (by decide), nm_r (e' := pc_o (oF m)) rfl ?_⟩
  by_cases e : oF m = x
  · refine br_t (congrArg pc_o e) ?_
    refine K oF lv ?_
    obtain ⟨i1, i2, i3, i4, i5, i6, i7, i8⟩ := I
    refine ⟨i1, i2, i3, i4, i5, ?_, i7, i8⟩
    intro m' hm2 _
    by_cases f : m' = m
    · subst f
      exact ⟨fun z => e.trans (h1 z), fun z => e.trans (h2 z)⟩
    · exact i6 m' hm2 f
  · refine br_f (fun z => e (pc_oinj (fun n hn => by have := hold n hn; omega) (fun n hn => by have := htop n hn; omega) z)) ⟨vp_in_nI hm' (by decide), nm_r (pc_uO oF m x) ?_⟩
    have tail : ∀ lv', (pc_XI E (fun t => R t ∨ x = some t) A pc_0 T M ba ef du ho (pc_u oF m x) sn fi nx pv hm ky lv') → wX_moveOffer_29 post (pc_o x) 0 1 (nI T) (nI M) (nI g) (lN wb) (lN nw) (fun j => nI (ba j)) (fun j => nI (ef j)) (fun j => nI (du j)) (fun j => pc_o (ho j)) (fun j => pc_o ((pc_u oF m x) j)) (fun j => lN (sn j)) (fun j => nI (dp j)) (fun j => pc_o (fi j)) (fun j => pc_o (nx j)) (fun j => pc_o (pv j)) (fun j => pc_o (hm j)) (fun j => lN (ky j)) (pc_BU lv') (pc_OC lv') (fun j => pc_o (lv' j)) (pc_ME lv') := by
      intro lv' J'
      unfold wX_moveOffer_29
      cases c : x with
      | none =>
        refine br_t pc_on ?_
        rw [c] at J'
        exact K _ _ (pi_mono (fun _ _ z => z) (fun _ _ z => z.elim id (fun w => nomatch w)) (fun _ z => z) (fun _ z => z) J')
      | some y =>
        refine br_f (pc_os (by have := htop y c; omega)) ?_
        rw [c] at J'
        refine px_rdy J' (htop y c) (fun lv2 J2 => ?_)
        exact K _ _ (pi_mono (fun _ _ z => z) (fun t _ z => z.1.elim id (fun w => absurd (Option.some.inj w).symm z.2)) (fun _ z => z) (fun _ z => z) J2)
    cases c : oF m with
    | none =>
      refine br_t pc_on (tail lv ?_)
      rw [c] at J
      exact pi_mono (fun _ _ z => z) (fun _ _ z => z.elim Or.inl (fun w => w.elim (fun v => nomatch v) Or.inr)) (fun _ z => z) (fun _ z => z) J
    | some y =>
      rw [c] at J
      refine br_f (pc_os (by have := hold y c; omega)) ?_
      refine px_rdy J (hold y c) (fun lv2 J2 => ?_)
      refine tail lv2 (pi_mono (fun _ _ z => z) (fun t _ z => z.1.elim Or.inl (fun w => w.elim (fun v => absurd (Option.some.inj v).symm z.2) Or.inr)) (fun _ z => z) (fun _ z => z) J2)
/-! sync -/
theorem pi_sync1 {m : Nat} {fi' nx' pv' : Nat → Option Nat} (I : (pc_XI E R (fun y => y = m) (fun y => y = m) T M ba ef du ho oF sn fi nx pv hm ky lv)) (hm' : m < 16) (hf : ∀ l, hm (16 + m) ≠ some l → fi' l = fi l) (hL : pc_L fi' nx' pv' (pc_u hm (16 + m) none) ky) :
    (pc_XI (fun t => E t ∨ hm (16 + m) = some (16 + t)) R (fun y => y = m) (fun y => y = m) T M ba ef du ho oF sn fi' nx' pv' (pc_u hm (16 + m) none) ky lv) := by
  obtain ⟨i1, i2, ⟨q1, q2, q3, q4⟩, i4, i5, i6, i7, i8⟩ := I
  have hq : ∀ n, n ≠ 16 + m → pc_u hm (16 + m) none n = hm n := fun n h => pc_un h
  have hlow : ∀ l, l < 16 → fi' l = fi l := fun l hl => hf l (fun z => by have := pc_L_cls i1 (n := 16 + m) (by omega) z; omega)
  refine ⟨hL, i2, ⟨?_, ?_, ?_, ?_⟩, i4, ?_, ?_, ?_, ?_⟩
  · intro t m' ht h
    rw [hq t (by omega)] at h
    exact q1 t m' ht h
  · intro m' l hm2 h
    by_cases e : m' = m
    · rw [e, pc_us] at h; exact nomatch h
    · rw [hq _ (by omega)] at h; exact q2 m' l hm2 h
  · intro s t m' hs ht h1 h2
    rw [hq s (by omega)] at h1
    rw [hq t (by omega)] at h2
    exact q3 s t m' hs ht h1 h2
  · intro t ht h
    rw [hq _ (by omega)] at h
    rw [hq _ (by omega)]
    exact q4 t ht h
  · intro m' hm2 hA
    have h := i5 m' hm2 hA
    unfold pc_CO
    rw [hlow m' hm2, hq _ (by omega)]
    exact h
  · intro m' hm2 hB
    unfold pc_CF
    rw [hlow m' hm2]
    exact i6 m' hm2 hB
  · intro t ht hE
    have h := i7 t ht (fun z => hE (Or.inl z))
    unfold pc_CD at h ⊢
    rw [pc_dd_c (hf (16 + t) (fun z => hE (Or.inr z))) (fun _ _ => rfl)]
    exact h
  · intro t ht hR
    have h := i8 t ht hR
    have := i2.1
    unfold pc_CR at h ⊢
    rw [h]
    exact (pc_rd_c (hq t (by omega)) rfl (fun _ _ => Iff.rfl)).symm
theorem pi_sync2 {m o x : Nat} {fi' nx' pv' : Nat → Option Nat} (I : (pc_XI E R (fun y => y = m) (fun y => y = m) T M ba ef du ho oF sn fi nx pv hm ky lv)) (hm' : m < 16) (hno : hm (16 + m) = none) (hho : ho m = some o) (hfi : fi m = some x) (hf : ∀ l, l ≠ 16 + o → fi' l = fi l)
    (hL : pc_L fi' nx' pv' (pc_u hm (16 + m) (some (16 + o))) (pc_u ky (16 + m) (31 - ef x))) :
    (pc_XI (fun t => E t ∨ t = o) R pc_0 (fun y => y = m) T M ba ef du ho oF sn fi' nx' pv' (pc_u hm (16 + m) (some (16 + o))) (pc_u ky (16 + m) (31 - ef x)) lv) := by
  obtain ⟨i1, i2, ⟨q1, q2, q3, q4⟩, i4, i5, i6, i7, i8⟩ := I
  have hq : ∀ n, n ≠ 16 + m → pc_u hm (16 + m) (some (16 + o)) n = hm n := fun n h => pc_un h
  have hk : ∀ n, n ≠ 16 + m → pc_u ky (16 + m) (31 - ef x) n = ky n := fun n h => pc_un h
  have hlow : ∀ l, l < 16 → fi' l = fi l := fun l hl => hf l (by omega)
  refine ⟨hL, i2, ⟨?_, ?_, ?_, ?_⟩, i4, ?_, ?_, ?_, ?_⟩
  · intro t m' ht h
    rw [hq t (by omega)] at h
    rw [hk t (by omega)]
    exact q1 t m' ht h
  · intro m' l hm2 h
    by_cases e : m' = m
    · rw [e, pc_us] at h
      have h1 := i2.2.2.2.1 m o hm' hho
      have h2 := Option.some.inj h
      rw [e, pc_us]
      exact ⟨by omega, by omega⟩
    · rw [hq _ (by omega)] at h; rw [hk _ (by omega)]; exact q2 m' l hm2 h
  · intro s t m' hs ht h1 h2
    rw [hq s (by omega)] at h1
    rw [hq t (by omega)] at h2
    exact q3 s t m' hs ht h1 h2
  · intro t ht h
    rw [hq _ (by omega)] at h
    rw [hq _ (by omega), hk _ (by omega)]
    exact q4 t ht h
  · intro m' hm2 _
    unfold pc_CO
    rw [hlow m' hm2]
    by_cases e : m' = m
    · subst e
      rw [pc_us, pc_us, hho, hfi]
      refine ⟨?_, (fun z => nomatch z), fun z => nomatch z⟩
      intro o' x' ho' hx'
      rw [Option.some.inj ho', Option.some.inj hx']
      exact ⟨rfl, rfl⟩
    · rw [hq _ (by omega), hk _ (by omega)]
      exact i5 m' hm2 e
  · intro m' hm2 hB
    unfold pc_CF
    rw [hlow m' hm2]
    exact i6 m' hm2 hB
  · intro t ht hE
    have h := i7 t ht (fun z => hE (Or.inl z))
    have hto : t ≠ o := fun z => hE (Or.inr z)
    unfold pc_CD at h ⊢
    rw [pc_dd_c (hf (16 + t) (by omega)) (fun n hn => hk n ?_)]
    · exact h
    · intro e
      have := (pc_L_some i1 (by have := i2.1; omega) hn).2.1
      rw [e, hno] at this
      exact nomatch this
  · intro t ht hR
    have h := i8 t ht hR
    have := i2.1
    unfold pc_CR at h ⊢
    rw [h]
    exact (pc_rd_c (hq t (by omega)) rfl (fun _ _ => Iff.rfl)).symm
theorem px_sync94 {post : SX → Prop} {o : Option Nat} (I : (pc_XI (fun t => E t ∨ o = some t) R A B T M ba ef du ho oF sn fi nx pv hm ky lv)) (hoT : ∀ t, o = some t → t < T)
    (K : ∀ du' lv', (pc_XI E R A B T M ba ef du' ho oF sn fi nx pv hm ky lv') → post (pc_X T M g wb nw ba ef du' ho oF sn dp fi nx pv hm ky lv')) : wX_sync_94 post (pc_o o) 0 1 (nI T) (nI M) (nI g) (lN wb) (lN nw) (fun j => nI (ba j)) (fun j => nI (ef j)) (fun j => nI (du j)) (fun j => pc_o (ho j)) (fun j => pc_o (oF j)) (fun j => lN (sn j)) (fun j => nI (dp j)) (fun j => pc_o (fi j)) (fun j => pc_o (nx j)) (fun j => pc_o (pv j)) (fun j => pc_o (hm j)) (fun j => lN (ky j)) (pc_BU lv) (pc_OC lv) (fun j => pc_o (lv j)) (pc_ME lv) := by
  unfold wX_sync_94
  have hT := I.2.1.1
  cases c : o with
  | none =>
    rw [c] at I
    refine br_t pc_on (K _ _ (pi_mono (fun _ _ z => z.elim id (fun w => nomatch w)) (fun _ _ z => z) (fun _ z => z) (fun _ z => z) I))
  | some t =>
    rw [c] at I
    refine br_f (pc_os (by have := hoT t c; omega)) (px_due I (hoT t c) (fun du' lv' J => ?_))
    exact K _ _ (pi_mono (fun x _ z => z.1.elim id (fun w => absurd (Option.some.inj w).symm z.2)) (fun _ _ z => z) (fun _ z => z) (fun _ z => z) J)
theorem px_sync77 {post : SX → Prop} {m : Nat} {x old o : Option Nat} (I : (pc_XI (fun t => E t ∨ old = some (16 + t) ∨ o = some t) R A (fun y => y = m) T M ba ef du ho oF sn fi nx pv hm ky lv)) (hm' : m < 16) (h1 : ho m = none → x = fi m) (h2 : ho m ≠ none → x = none)
    (hold : ∀ l, old = some l → ∃ t, l = 16 + t ∧ t < T) (hoT : ∀ t, o = some t → t < T)
    (K : ∀ du' oF' lv', (pc_XI E R A pc_0 T M ba ef du' ho oF' sn fi nx pv hm ky lv') → post (pc_X T M g wb nw ba ef du' ho oF' sn dp fi nx pv hm ky lv')) : wX_sync_77 post (pc_o old) (pc_o o) (pc_o x) (nI m) 0 1 (nI T) (nI M) (nI g) (lN wb) (lN nw) (fun j => nI (ba j)) (fun j => nI (ef j)) (fun j => nI (du j)) (fun j => pc_o (ho j)) (fun j => pc_o (oF j)) (fun j => lN (sn j)) (fun j => nI (dp j)) (fun j => pc_o (fi j)) (fun j => pc_o (nx j)) (fun j => pc_o (pv j)) (fun j => pc_o (hm j)) (fun j => lN (ky j)) (pc_BU lv) (pc_OC lv) (fun j => pc_o (lv j)) (pc_ME lv) := by
  have hT := I.2.1.1
  unfold wX_sync_77
  refine px_moveOffer I hm' h1 h2 (fun oF' lv' J => ?_)
  cases c : old with
  | none =>
    refine br_t (by decide) ?_
    rw [c] at J
    refine px_sync94 (pi_mono (fun _ _ z => z.elim Or.inl (fun w => w.elim (fun v => nomatch v) Or.inr)) (fun _ _ z => z) (fun _ z => z) (fun _ z => z) J) hoT (fun du' lv2 J2 => K _ _ _ J2)
  | some l =>
    obtain ⟨t, e, ht⟩ := hold l c
    subst e
    rw [c] at J
    have e16 : pc_o (some (16 + t)) - 16 = nI t := by
      show nI (16 + t) - nI 16 = nI t
      rw [pk_sub (by omega)]
      exact congrArg nI (by omega)
    refine br_f (nI_nlt (b := 16) (by omega) (by omega)) ?_
    rw [e16]
    refine px_due J ht (fun du' lv2 J2 => ?_)
    refine px_sync94 (pi_mono (fun y _ z => z.1.elim Or.inl (fun w => w.elim (fun v => ?_) Or.inr)) (fun _ _ z => z) (fun _ z => z) (fun _ z => z) J2) hoT (fun du2 lv3 J3 => K _ _ _ J3)
    exact absurd (by have := Option.some.inj v; omega) z.2
theorem px_sync64 {post : SX → Prop} {m : Nat} {old : Option Nat} (I : (pc_XI (fun t => E t ∨ old = some (16 + t) ∨ ho m = some t) R A (fun y => y = m) T M ba ef du ho oF sn fi nx pv hm ky lv)) (hm' : m < 16)
    (hold : ∀ l, old = some l → ∃ t, l = 16 + t ∧ t < T)
    (K : ∀ du' oF' lv', (pc_XI E R A pc_0 T M ba ef du' ho oF' sn fi nx pv hm ky lv') → post (pc_X T M g wb nw ba ef du' ho oF' sn dp fi nx pv hm ky lv')) : wX_sync_64 post (nI m) (pc_o old) (pc_o (ho m)) (pc_o (fi m)) 0 1 (nI T) (nI M) (nI g) (lN wb) (lN nw) (fun j => nI (ba j)) (fun j => nI (ef j)) (fun j => nI (du j)) (fun j => pc_o (ho j)) (fun j => pc_o (oF j)) (fun j => lN (sn j)) (fun j => nI (dp j)) (fun j => pc_o (fi j)) (fun j => pc_o (nx j)) (fun j => pc_o (pv j)) (fun j => pc_o (hm j)) (fun j => lN (ky j)) (pc_BU lv) (pc_OC lv) (fun j => pc_o (lv j)) (pc_ME lv) := by
  have hoT : ∀ t, ho m = some t → t < T := fun t ht => I.2.1.2.2.2.1 m t hm' ht
  have hT := I.2.1.1
  unfold wX_sync_64
  cases c : ho m with
  | none =>
    rw [c] at I
    exact br_f pc_on' (px_sync77 (o := none) I hm' (fun _ => rfl) (fun z => absurd c z) hold (fun t z => nomatch z) K)
  | some o =>
    rw [c] at I
    exact br_t (pc_os' (by have := hoT o c; omega)) (px_sync77 (x := none) (o := some o) I hm' (fun z => by rw [c] at z; exact nomatch z) (fun _ => rfl) hold (fun t z => hoT t (c.trans z)) K)
end
end
section
/-! own rows: sync and what calls it -/
theorem pc_31 {e : Nat} (h : e < 32) : ((31 : Int32) - nI e).toInt64 = lN (31 - e) := by
  have : (31 : Int32) - nI e = nI (31 - e) := pk_sub (a := 31) (by omega)
  rw [this, nI_l (by omega)]
def pc_cl (v : Int32) (lo hi : Nat) : Nat := if nI lo ≤ v then (if v ≤ nI hi then v.toNatClampNeg else hi) else lo
theorem pc_cl_of {v : Int32} {lo : Nat} (hlo : lo < 2 ^ 31) (h : nI lo ≤ v) : ∃ j, j < 2 ^ 31 ∧ v = nI j ∧ lo ≤ j ∧ v.toNatClampNeg = j := by
  have h0 : ¬ v < 0 := by
    rw [Int32.not_lt]
    exact Int32.le_trans (nI_pos' hlo) h
  obtain ⟨j, hj, rfl⟩ := nI_of h0
  exact ⟨j, hj, rfl, (nI_leI hlo hj).mp h, nI_clamp hj⟩
theorem pc_cl_b {v : Int32} {lo hi : Nat} (h1 : lo ≤ hi) (h2 : hi < 2 ^ 31) : lo ≤ pc_cl v lo hi ∧ pc_cl v lo hi ≤ hi := by
  unfold pc_cl
  by_cases c : nI lo ≤ v
  · rw [if_pos c]
    by_cases d : v ≤ nI hi
    · rw [if_pos d]
      obtain ⟨j, hj, rfl, e1, e2⟩ := pc_cl_of (by omega) c
      rw [e2]
      exact ⟨e1, (nI_leI hj h2).mp d⟩
    · rw [if_neg d]; omega
  · rw [if_neg c]; omega
theorem pc_cl3 {P : Int32 → Prop} {v : Int32} {lo hi : Nat} (h1 : lo ≤ hi) (h2 : hi < 2 ^ 31) (h : P (nI (pc_cl v lo hi))) :
    ((nI lo ≤ v → ((v ≤ nI hi → P v) ∧ (¬ v ≤ nI hi → P (nI hi)))) ∧ (¬ nI lo ≤ v → P (nI lo))) := by
  unfold pc_cl at h
  refine br_c (fun c => ?_) (fun c => ?_)
  · rw [if_pos c] at h
    refine br_c (fun d => ?_) (fun d => ?_)
    · rw [if_pos d] at h
      obtain ⟨j, hj, rfl, e1, e2⟩ := pc_cl_of (by omega) c
      rw [e2] at h
      exact h
    · rw [if_neg d] at h; exact h
  · rw [if_neg c] at h; exact h
theorem pc_cl_z {v : Int32} (h : v ≤ 0) : pc_cl v 0 60 = 0 := by
  unfold pc_cl
  by_cases c : nI 0 ≤ v
  · obtain ⟨j, hj, rfl, e1, e2⟩ := pc_cl_of (by decide) c
    have : j ≤ 0 := (nI_leI (b := 0) hj (by decide)).mp h
    rw [if_pos c, e2, if_pos (nI_le (b := 60) (by omega) (by decide))]
    omega
  · rw [if_neg c]
theorem pc_cl_p {v : Int32} (h : ¬ v ≤ 0) : pc_cl v 1 60 = pc_cl v 0 60 ∧ 0 < pc_cl v 0 60 ∧ pc_cl v 0 60 ≤ 60 := by
  have h0 : ¬ v < 0 := fun z => h (Int32.le_of_lt z)
  obtain ⟨j, hj, rfl⟩ := nI_of h0
  have hj0 : 0 < j := by
    rcases Nat.eq_zero_or_pos j with c | c
    · exact absurd (by rw [c]; decide) h
    · exact c
  have c0 : nI 0 ≤ nI j := nI_le (by omega) hj
  have c1 : nI 1 ≤ nI j := nI_le (by omega) hj
  unfold pc_cl
  rw [if_pos c0, if_pos c1, nI_clamp hj]
  by_cases d : nI j ≤ nI 60
  · have := (nI_leI hj (by decide)).mp d
    rw [if_pos d]; omega
  · rw [if_neg d]; omega
section
variable {f_staleSet f_readySet f_taskCount f_mutexCount f_margin : Int32} {f_waitsBegun f_now : Int64} {a_base a_eff a_due a_holder a_offered a_depth a_first a_next a_prev a_home a_bucket a_occupied a_levelOf a_members : Nat → Int32} {a_since a_key : Nat → Int64}
theorem px_clamp {post : Int32 → Prop} {v : Int32} {lo hi : Nat} (h1 : lo ≤ hi) (h2 : hi < 2 ^ 31) (h : post (nI (pc_cl v lo hi))) : wpX_clamp post (f_staleSet, f_readySet, f_taskCount, f_mutexCount, f_margin, f_waitsBegun, f_now, a_base, a_eff, a_due, a_holder, a_offered, a_since, a_depth, a_first, a_next, a_prev, a_home, a_key, a_bucket, a_occupied, a_levelOf, a_members) v (nI lo) (nI hi) := pc_cl3 (P := post) h1 h2 h
end
section
variable {T M g wb nw : Nat} {ba ef du sn dp ky : Nat → Nat} {ho oF fi nx pv hm lv : Nat → Option Nat} {E R A B : Nat → Prop}
theorem px_sync {post : SX → Prop} {m : Nat} (I : (pc_XI E R (fun y => y = m) (fun y => y = m) T M ba ef du ho oF sn fi nx pv hm ky lv)) (hm' : m < 16)
    (K : ∀ du' oF' fi' nx' pv' hm' ky' lv', (pc_XI E R pc_0 pc_0 T M ba ef du' ho oF' sn fi' nx' pv' hm' ky' lv') → (∀ n, n < 16 ∨ 32 ≤ n → hm' n = hm n ∧ ky' n = ky n) →
      post (pc_X T M g wb nw ba ef du' ho oF' sn dp fi' nx' pv' hm' ky' lv')) : wpX_sync post (pc_X T M g wb nw ba ef du ho oF sn dp fi nx pv hm ky lv) (nI m) := by
  have hT := I.2.1.1
  have c16 : (nI (16 + m)).toNatClampNeg = 16 + m := nI_clamp (by omega)
  have cm : (nI m).toNatClampNeg = m := nI_clamp (by omega)
  have hold : ∀ l, hm (16 + m) = some l → ∃ t, l = 16 + t ∧ t < T := fun l hl => by
    have h1 := pc_L_cls I.1 (n := 16 + m) (by omega) hl
    have h2 := (I.2.2.1.2.1 m l hm' hl).2
    exact ⟨l - 16, by omega, by omega⟩
  have hlow : hm (16 + m) ≠ some m := fun z => by have := pc_L_cls I.1 (n := 16 + m) (by omega) z; omega
  unfold wpX_sync
  refine nm_r (pc_16 m) ?_
  rw [c16, cm]
  refine ⟨vp_in_nI (by omega) (by decide), nm_r (e' := pc_o (hm (16 + m))) rfl ⟨vp_in_nI hm' (by decide), nm_r (e' := pc_o (ho m)) rfl ⟨vp_in_nI (by omega) (by decide), nm_r (e' := pc_o (fi m)) rfl ?_⟩⟩⟩
  refine px_remove I.1 (by omega) (fun fi1 nx1 pv1 hf1 hL1 => ?_)
  have J := pi_sync1 I hm' hf1 hL1
  have hfm : fi1 m = fi m := hf1 m hlow
  have hkeep : ∀ n, n < 16 ∨ 32 ≤ n → pc_u hm (16 + m) none n = hm n := fun n hn => pc_un (by omega)
  have noins : ho m = none ∨ fi m = none → wX_sync_64 post (nI m) (pc_o (hm (16 + m))) (pc_o (ho m)) (pc_o (fi m)) 0 1 (nI T) (nI M) (nI g) (lN wb) (lN nw) (fun j => nI (ba j)) (fun j => nI (ef j)) (fun j => nI (du j)) (fun j => pc_o (ho j)) (fun j => pc_o (oF j)) (fun j => lN (sn j)) (fun j => nI (dp j)) (fun j => pc_o (fi1 j)) (fun j => pc_o (nx1 j)) (fun j => pc_o (pv1 j)) (fun j => pc_o ((pc_u hm (16 + m) none) j)) (fun j => lN (ky j)) (pc_BU lv) (pc_OC lv) (fun j => pc_o (lv j)) (pc_ME lv) := by
    intro hn
    rw [← hfm]
    refine px_sync64 (E := E) (R := R) (A := pc_0) ?_ hm' hold (fun du' oF' lv' J2 => K _ _ _ _ _ _ _ _ J2 (fun n hn => ⟨hkeep n hn, rfl⟩))
    obtain ⟨j1, j2, j3, j4, j5, j6, j7, j8⟩ := J
    refine ⟨j1, j2, j3, j4, ?_, j6, ?_, j8⟩
    · intro m2 h2 _
      by_cases e : m2 = m
      · subst e
        refine ⟨?_, fun _ => pc_us, fun _ => pc_us⟩
        intro o x ho' hx
        rw [hfm] at hx
        rcases hn with h | h
        · rw [h] at ho'; exact nomatch ho'
        · rw [h] at hx; exact nomatch hx
      · exact j5 m2 h2 e
    · intro t ht hE
      exact j7 t ht (fun z => hE (z.elim Or.inl (fun w => Or.inr (Or.inl w))))
  cases c : ho m with
  | none =>
    have := noins (Or.inl c)
    rw [c] at this
    exact br_t pc_on this
  | some o =>
    have hoT := I.2.1.2.2.2.1 m o hm' c
    refine br_f (pc_os (by omega)) ?_
    cases d : fi m with
    | none =>
      have := noins (Or.inr d)
      rw [c, d] at this
      exact br_t pc_on this
    | some x =>
      obtain ⟨hx16, hxT, hxm⟩ := pi_top I hm' d
      have cx : (pc_o (some x)).toNatClampNeg = x := nI_clamp (by omega)
      have hex := (I.2.1.2.2.1 x hx16).2.1
      refine br_f (pc_os (by omega)) ⟨vp_in_nI hx16 (by decide), ?_⟩
      rw [cx, pc_31 hex, show (16 : Int32) + pc_o (some o) = nI (16 + o) from pc_16 o]
      refine px_insert hL1 (by omega) (by omega) (by omega) pc_us (by omega) (fun y hy hyo => ?_) (fun fi2 nx2 pv2 hf2 hL2 => ?_)
      · by_cases e : y = 16 + m
        · rw [e, pc_us] at hyo; exact nomatch hyo
        · rw [pc_un e] at hyo
          have h1 := pc_L_cls I.1 hy hyo
          have h2 := (I.2.2.1.2.1 (y - 16) (16 + o) (by omega) (by rw [show 16 + (y - 16) = y from by omega]; exact hyo)).1
          rw [show 16 + (y - 16) = y from by omega] at h2
          omega
      · have J2 := pi_sync2 J hm' pc_us c (hfm.trans d) hf2 hL2
        rw [pc_uu] at J2 ⊢
        rw [show pc_o (some o) = pc_o (ho m) from by rw [c], show pc_o (some x) = pc_o (fi2 m) from by rw [hf2 m (by omega), hfm, d]]
        refine px_sync64 (E := E) (R := R) (A := pc_0) ?_ hm' hold (fun du' oF' lv' J3 => K _ _ _ _ _ _ _ _ J3 (fun n hn => ⟨pc_un (by omega), pc_un (by omega)⟩))
        refine pi_mono (fun t _ z => ?_) (fun _ _ z => z) (fun _ z => z) (fun _ z => z) J2
        rcases z with (z | z) | z
        · exact Or.inl z
        · exact Or.inr (Or.inl z)
        · exact Or.inr (Or.inr (by rw [z]; exact c))
/-! setHolder -/
theorem pi_setHolder (I : (pc_XI pc_0 pc_0 pc_0 pc_0 T M ba ef du ho oF sn fi nx pv hm ky lv)) {m : Nat} {h : Option Nat} (hh : ∀ o, h = some o → o < T) : (pc_XI pc_0 pc_0 (fun y => y = m) (fun y => y = m) T M ba ef du (pc_u ho m h) oF sn fi nx pv hm ky lv) := by
  obtain ⟨i1, ⟨r1, r2, r3, r4, r5⟩, i3, i4, i5, i6, i7, i8⟩ := I
  refine ⟨i1, ⟨r1, r2, r3, ?_, r5⟩, i3, i4, ?_, ?_, i7, i8⟩
  · intro m' o hm2 h2
    by_cases e : m' = m
    · rw [e, pc_us] at h2; exact hh o h2
    · rw [pc_un e] at h2; exact r4 m' o hm2 h2
  · intro m' hm2 e
    unfold pc_CO
    rw [pc_un e]
    exact i5 m' hm2 id
  · intro m' hm2 e
    unfold pc_CF
    rw [pc_un e]
    exact i6 m' hm2 id
theorem px_setHolder {post : SX → Prop} {m : Nat} {h : Option Nat} (I : (pc_XI pc_0 pc_0 pc_0 pc_0 T M ba ef du ho oF sn fi nx pv hm ky lv)) (hm' : m < 16) (hh : ∀ o, h = some o → o < T)
    (K : ∀ du' oF' fi' nx' pv' hm' ky' lv', (pc_XI pc_0 pc_0 pc_0 pc_0 T M ba ef du' (pc_u ho m h) oF' sn fi' nx' pv' hm' ky' lv') → (∀ n, n < 16 ∨ 32 ≤ n → hm' n = hm n ∧ ky' n = ky n) →
      post (pc_X T M g wb nw ba ef du' (pc_u ho m h) oF' sn dp fi' nx' pv' hm' ky' lv')) : wpX_setHolder post (pc_X T M g wb nw ba ef du ho oF sn dp fi nx pv hm ky lv) (nI m) (pc_o h) := by
  unfold wpX_setHolder
  refine ⟨vp_in_nI hm' (by decide), nm_r (pc_cO (by omega)) ?_⟩
  exact px_sync (pi_setHolder I hh) hm' K
/-! endWait -/
theorem pi_endWait (I : (pc_XI pc_0 pc_0 pc_0 pc_0 T M ba ef du ho oF sn fi nx pv hm ky lv)) {t m : Nat} {fi' nx' pv' : Nat → Option Nat} (ht : t < 16) (htm : hm t = some m) (hf : ∀ l, l ≠ m → l ≠ 32 → fi' l = fi l)
    (hL : pc_L fi' nx' pv' (pc_u (pc_u hm t none) (32 + t) none) ky) :
    (pc_XI pc_0 (fun y => y = t) (fun y => y = m) (fun y => y = m) T M ba ef du ho oF sn fi' nx' pv' (pc_u (pc_u hm t none) (32 + t) none) ky lv) := by
  have hm16 := (pi_m16 I ht htm).1
  obtain ⟨i1, i2, ⟨q1, q2, q3, q4⟩, i4, i5, i6, i7, i8⟩ := I
  have hT := i2.1
  have hq : ∀ n, n ≠ t → n ≠ 32 + t → pc_u (pc_u hm t none) (32 + t) none n = hm n := fun n h1 h2 => by rw [pc_un h2, pc_un h1]
  have hqt : pc_u (pc_u hm t none) (32 + t) none t = none := by rw [pc_un (by omega), pc_us]
  have hq3 : ∀ s, s < 16 → ∀ m', pc_u (pc_u hm t none) (32 + t) none s = some m' → hm s = some m' := fun s hs m' h => by
    by_cases e : s = t
    · rw [e, hqt] at h; exact nomatch h
    · rw [hq s e (by omega)] at h; exact h
  refine ⟨hL, i2, ⟨?_, ?_, ?_, ?_⟩, i4, ?_, ?_, ?_, ?_⟩
  · intro s m' hs h
    exact q1 s m' hs (hq3 s hs m' h)
  · intro m' l hm2 h
    rw [hq _ (by omega) (by omega)] at h
    exact q2 m' l hm2 h
  · intro s s' m' hs hs' h1 h2
    exact q3 s s' m' hs hs' (hq3 s hs m' h1) (hq3 s' hs' m' h2)
  · intro s hs h
    by_cases e : s = t
    · rw [e, pc_us] at h; exact absurd rfl h
    · rw [hq _ (by omega) (by omega)] at h
      rw [hq _ e (by omega)]
      exact q4 s hs h
  · intro m' hm2 e
    unfold pc_CO
    rw [hf m' e (by omega), hq _ (by omega) (by omega)]
    exact i5 m' hm2 id
  · intro m' hm2 e
    unfold pc_CF
    rw [hf m' e (by omega)]
    exact i6 m' hm2 id
  · intro s hs _
    have h := i7 s hs id
    unfold pc_CD at h ⊢
    rw [pc_dd_c (hf (16 + s) (by omega) (by omega)) (fun _ _ => rfl)]
    exact h
  · intro s hs e
    have h := i8 s hs id
    unfold pc_CR at h ⊢
    rw [h]
    exact (pc_rd_c (hq s e (by omega)) rfl (fun _ _ => Iff.rfl)).symm
theorem px_endWait {post : SX → Prop} {t m : Nat} (I : (pc_XI pc_0 pc_0 pc_0 pc_0 T M ba ef du ho oF sn fi nx pv hm ky lv)) (ht : t < 16) (htm : hm t = some m)
    (K : ∀ du' oF' fi' nx' pv' hm' ky' lv', (pc_XI pc_0 pc_0 pc_0 pc_0 T M ba ef du' ho oF' sn fi' nx' pv' hm' ky' lv') → (∀ n, n < 16 ∨ 32 ≤ n → hm' n = pc_u (pc_u hm t none) (32 + t) none n ∧ ky' n = ky n) →
      post (pc_X T M g wb nw ba ef du' ho oF' sn dp fi' nx' pv' hm' ky' lv')) : wpX_endWait post (pc_X T M g wb nw ba ef du ho oF sn dp fi nx pv hm ky lv) (nI t) := by
  obtain ⟨hm16, hT, hM⟩ := pi_m16 I ht htm
  unfold wpX_endWait
  rw [nI_clamp (by omega : t < 2 ^ 31)]
  refine ⟨vp_in_nI (by omega) (by decide), nm_r (e' := pc_o (some m)) (congrArg pc_o htm) (br_t (pc_os' (by omega)) ?_)⟩
  refine px_remove I.1 (by omega) (fun fi1 nx1 pv1 hf1 hL1 => ?_)
  rw [pc_32 t]
  refine px_remove hL1 (by omega) (fun fi2 nx2 pv2 hf2 hL2 => ?_)
  have hf : ∀ l, l ≠ m → l ≠ 32 → fi2 l = fi l := fun l h1 h2 => by
    rw [hf2 l, hf1 l]
    · rw [htm]; exact fun z => h1 (Option.some.inj z).symm
    · rw [pc_un (by omega)]
      intro z
      have := pc_L_cls I.1 (n := 32 + t) (by omega) z
      omega
  refine px_sync (pi_endWait I ht htm hf hL2) hm16 (fun du' oF' fi' nx' pv' hm' ky' lv' J hk => ?_)
  refine px_rdy J hT (fun lv2 J2 => ?_)
  exact K _ _ _ _ _ _ _ _ (pi_mono (fun _ _ z => z) (fun _ _ z => absurd z.1 z.2) (fun _ z => z) (fun _ z => z) J2) hk
/-! setEff -/
theorem pi_effN (I : (pc_XI pc_0 pc_0 pc_0 pc_0 T M ba ef du ho oF sn fi nx pv hm ky lv)) {t p : Nat} (ht : t < 16) (hp : p < 32) (htm : hm t = none) : (pc_XI (fun y => y = t) (fun y => y = t) pc_0 pc_0 T M ba (pc_u ef t p) du ho oF sn fi nx pv hm ky lv) := by
  have htop := @pi_top
  obtain ⟨i1, ⟨r1, r2, r3, r4, r5⟩, ⟨q1, q2, q3, q4⟩, i4, i5, i6, i7, i8⟩ := I
  have hq : ∀ x, hm x ≠ none → pc_u ef t p x = ef x := fun x h => pc_un (fun e => h (e ▸ htm))
  refine ⟨i1, ⟨r1, r2, ?_, r4, r5⟩, ⟨?_, q2, q3, q4⟩, i4, ?_, i6, ?_, ?_⟩
  · intro x hx
    have h := r3 x hx
    by_cases e : x = t
    · subst e; rw [pc_us]; exact ⟨h.1, hp, h.2.2⟩
    · rw [pc_un e]; exact h
  · intro s m hs h
    rw [hq s (by rw [h]; exact fun z => nomatch z)]
    exact q1 s m hs h
  · intro m hm2 _
    have h := i5 m hm2 id
    refine ⟨?_, h.2⟩
    intro o x ho' hx
    rw [hq x (by rw [(pc_L_some i1 (by omega) hx).2.1]; exact fun z => nomatch z)]
    exact h.1 o x ho' hx
  · intro s hs e
    have h := i7 s hs id
    unfold pc_CD at h ⊢
    rw [pc_un e]
    exact h
  · intro s hs e
    have h := i8 s hs id
    unfold pc_CR at h ⊢
    rw [h]
    exact (pc_rd_c rfl (pc_un e) (fun _ _ => Iff.rfl)).symm
theorem pi_effS (I : (pc_XI pc_0 pc_0 pc_0 pc_0 T M ba ef du ho oF sn fi nx pv hm ky lv)) {t m p : Nat} {fi' nx' pv' : Nat → Option Nat} (ht : t < 16) (hp : p < 32) (htm : hm t = some m) (hf : ∀ l, l ≠ m → fi' l = fi l)
    (hL : pc_L fi' nx' pv' hm (pc_u ky t ((31 - p) * 2 ^ 58 + sn t))) :
    (pc_XI (fun y => y = t) (fun y => y = t) (fun y => y = m) (fun y => y = m) T M ba (pc_u ef t p) du ho oF sn fi' nx' pv' hm (pc_u ky t ((31 - p) * 2 ^ 58 + sn t)) lv) := by
  have hm16 := (pi_m16 I ht htm).1
  obtain ⟨i1, ⟨r1, r2, r3, r4, r5⟩, ⟨q1, q2, q3, q4⟩, i4, i5, i6, i7, i8⟩ := I
  have hk : ∀ n, n ≠ t → pc_u ky t ((31 - p) * 2 ^ 58 + sn t) n = ky n := fun n h => pc_un h
  refine ⟨hL, ⟨r1, r2, ?_, r4, r5⟩, ⟨?_, ?_, q3, ?_⟩, i4, ?_, ?_, ?_, ?_⟩
  · intro x hx
    have h := r3 x hx
    by_cases e : x = t
    · subst e; rw [pc_us]; exact ⟨h.1, hp, h.2.2⟩
    · rw [pc_un e]; exact h
  · intro s m' hs h
    have h' := q1 s m' hs h
    by_cases e : s = t
    · subst e; rw [pc_us, pc_us]; exact ⟨h'.1, h'.2.1, rfl⟩
    · rw [pc_un e, pc_un e]; exact h'
  · intro m' l hm2 h
    rw [hk _ (by omega)]
    exact q2 m' l hm2 h
  · intro s hs h
    rw [hk _ (by omega)]
    exact q4 s hs h
  · intro m' hm2 e
    have h := i5 m' hm2 id
    unfold pc_CO
    rw [hf m' e, hk _ (by omega)]
    refine ⟨?_, h.2⟩
    intro o x ho' hx
    rw [pc_un (fun z => ?_)]
    · exact h.1 o x ho' hx
    · have := (pc_L_some i1 (by omega) hx).2.1
      rw [z, htm] at this
      exact e (Option.some.inj this).symm
  · intro m' hm2 e
    unfold pc_CF
    rw [hf m' e]
    exact i6 m' hm2 id
  · intro s hs e
    have h := i7 s hs id
    unfold pc_CD at h ⊢
    rw [pc_un e, pc_dd_c (hf (16 + s) (by omega)) (fun n hn => hk n ?_)]
    · exact h
    · intro z
      have h1 := pc_L_some i1 (by omega) hn
      have h2 := pc_L_cls i1 h1.1 h1.2.1
      omega
  · intro s hs e
    have h := i8 s hs id
    unfold pc_CR at h ⊢
    rw [h]
    exact (pc_rd_c rfl (pc_un e) (fun _ _ => Iff.rfl)).symm
theorem pc_key {e s : Nat} (h : e < 32) : (((31 : Int64) - (nI e).toInt64) <<< ((58 : Int32).toInt64 &&& 63)) + lN s = lN ((31 - e) * 2 ^ 58 + s) := by
  rw [nI_l (by omega), show (31 : Int64) = lN 31 from rfl, lN_sub (by omega), show (58 : Int32) = nI 58 from rfl, wb_shl _ (by decide), lN_add]
theorem pi_kyb (I : (pc_XI E R A B T M ba ef du ho oF sn fi nx pv hm ky lv)) {m x : Nat} (hm' : m < 16) (hx : x < 48) (h : hm x = some m) : ky x < 2 ^ 63 := by
  have h1 := pc_L_cls I.1 hx h
  have h2 := (I.2.2.1.1 x m (by omega) h).2.2
  have h3 := (I.2.1.2.2.1 x (by omega)).2.2.2
  rw [h2]
  omega
theorem px_enqueue {post : SX → Prop} {t m : Nat} (H : pc_L fi nx pv hm ky) (ht : t < 16) (hm' : m < 16) (hno : hm t = none) (he : ef t < 32) (hs : sn t < 2 ^ 58) (hky : ∀ x, x < 48 → hm x = some m → ky x < 2 ^ 63)
    (K : ∀ fi' nx' pv', (∀ l, l ≠ m → fi' l = fi l) → pc_L fi' nx' pv' (pc_u hm t (some m)) (pc_u ky t ((31 - ef t) * 2 ^ 58 + sn t)) → post (pc_X T M g wb nw ba ef du ho oF sn dp fi' nx' pv' (pc_u hm t (some m)) (pc_u ky t ((31 - ef t) * 2 ^ 58 + sn t)) lv)) :
    wpX_enqueue post (pc_X T M g wb nw ba ef du ho oF sn dp fi nx pv hm ky lv) (nI t) (nI m) := by
  unfold wpX_enqueue
  rw [nI_clamp (by omega : t < 2 ^ 31)]
  refine ⟨vp_in_nI ht (by decide), vp_in_nI ht (by decide), ?_⟩
  rw [pc_key he]
  exact px_insert H (by omega) (by omega) (by omega) hno (by omega) hky K
theorem px_eff34 {post : SX → Prop} {t : Nat} (I : (pc_XI (fun y => y = t) (fun y => y = t) pc_0 pc_0 T M ba ef du ho oF sn fi nx pv hm ky lv)) (hT : t < T)
    (K : ∀ du' lv', (pc_XI pc_0 pc_0 pc_0 pc_0 T M ba ef du' ho oF sn fi nx pv hm ky lv') → post (pc_X T M g wb nw ba ef du' ho oF sn dp fi nx pv hm ky lv')) : wX_setEff_34 post (nI t) 0 1 (nI T) (nI M) (nI g) (lN wb) (lN nw) (fun j => nI (ba j)) (fun j => nI (ef j)) (fun j => nI (du j)) (fun j => pc_o (ho j)) (fun j => pc_o (oF j)) (fun j => lN (sn j)) (fun j => nI (dp j)) (fun j => pc_o (fi j)) (fun j => pc_o (nx j)) (fun j => pc_o (pv j)) (fun j => pc_o (hm j)) (fun j => lN (ky j)) (pc_BU lv) (pc_OC lv) (fun j => pc_o (lv j)) (pc_ME lv) := by
  unfold wX_setEff_34
  refine px_rdy I hT (fun lv1 J1 => ?_)
  refine px_due J1 hT (fun du2 lv2 J2 => ?_)
  exact K _ _ (pi_mono (fun _ _ z => absurd z.1 z.2) (fun _ _ z => absurd z.1 z.2) (fun _ z => z) (fun _ z => z) J2)
theorem px_setEff {post : SX → Prop} {t p : Nat} (I : (pc_XI pc_0 pc_0 pc_0 pc_0 T M ba ef du ho oF sn fi nx pv hm ky lv)) (hT : t < T) (hp : p < 32)
    (K : ∀ du' oF' fi' nx' pv' hm' ky' lv', (pc_XI pc_0 pc_0 pc_0 pc_0 T M ba (pc_u ef t p) du' ho oF' sn fi' nx' pv' hm' ky' lv') → (∀ n, n < 16 ∨ 32 ≤ n → hm' n = hm n) → (∀ n, 32 ≤ n → ky' n = ky n) →
      post (pc_X T M g wb nw ba (pc_u ef t p) du' ho oF' sn dp fi' nx' pv' hm' ky' lv')) : wpX_setEff post (pc_X T M g wb nw ba ef du ho oF sn dp fi nx pv hm ky lv) (nI t) (nI p) := by
  have h16 : t < 16 := Nat.lt_of_lt_of_le hT I.2.1.1
  unfold wpX_setEff
  refine ⟨vp_in_nI h16 (by decide), nm_r (pc_cI (by omega)) ?_⟩
  rw [nI_clamp (by omega : t < 2 ^ 31)]
  refine ⟨vp_in_nI (by omega) (by decide), nm_r (e' := pc_o (hm t)) rfl ?_⟩
  cases c : hm t with
  | none =>
    refine br_t pc_on ?_
    exact px_eff34 (pi_effN I h16 hp c) hT (fun du' lv' J => K _ _ _ _ _ _ _ _ J (fun _ _ => rfl) (fun _ _ => rfl))
  | some m =>
    have hm16 := (pi_m16 I h16 c).1
    have hr := I.2.1.2.2.1 t h16
    refine br_f (pc_os (by omega)) ?_
    refine px_remove I.1 (by omega) (fun fi1 nx1 pv1 hf1 hL1 => ?_)
    refine px_enqueue hL1 h16 hm16 pc_us (by rw [pc_us]; exact hp) hr.2.2.2 (fun x hx h => ?_) (fun fi2 nx2 pv2 hf2 hL2 => ?_)
    · by_cases e : x = t
      · rw [e, pc_us] at h; exact nomatch h
      · rw [pc_un e] at h; exact pi_kyb I hm16 hx h
    · rw [pc_us, pc_uu, pc_u_self c] at hL2 ⊢
      refine px_sync (pi_effS I h16 hp c (fun l hl => ?_) hL2) hm16 (fun du' oF' fi' nx' pv' hm' ky' lv' J hk => ?_)
      · rw [hf2 l hl, hf1 l]
        rw [c]; exact fun z => hl (Option.some.inj z).symm
      · refine px_eff34 J hT (fun du2 lv2 J2 => ?_)
        exact K _ _ _ _ _ _ _ _ J2 (fun n hn => (hk n hn).1) (fun n hn => by rw [(hk n (Or.inr hn)).2, pc_un (by omega)])
/-! beginWait -/
theorem pi_begin (I : (pc_XI pc_0 pc_0 pc_0 pc_0 T M ba ef du ho oF sn fi nx pv hm ky lv)) {t m s0 : Nat} {fi' nx' pv' hm' : Nat → Option Nat} {ky' : Nat → Nat} (hT : t < T) (hM : m < M) (htm : hm t = none) (hs0 : s0 < 2 ^ 58) (hfresh : ∀ s, s < 16 → hm s ≠ none → sn s < s0)
    (hf : ∀ l, l ≠ m → l ≠ 32 → fi' l = fi l) (hh : ∀ n, n ≠ t → n ≠ 32 + t → hm' n = hm n) (hht : hm' t = some m) (hk : ∀ n, n ≠ t → n ≠ 32 + t → ky' n = ky n) (hkt : ky' t = (31 - ef t) * 2 ^ 58 + s0) (hkb : hm' (32 + t) ≠ none → ky' (32 + t) < 2 ^ 62)
    (hL : pc_L fi' nx' pv' hm' ky') :
    (pc_XI pc_0 (fun y => y = t) (fun y => y = m) (fun y => y = m) T M ba ef du ho oF (pc_u sn t s0) fi' nx' pv' hm' ky' lv) := by
  obtain ⟨i1, ⟨r1, r2, r3, r4, r5⟩, ⟨q1, q2, q3, q4⟩, i4, i5, i6, i7, i8⟩ := I
  have ht : t < 16 := by omega
  have hm16 : m < 16 := by omega
  refine ⟨hL, ⟨r1, r2, ?_, r4, r5⟩, ⟨?_, ?_, ?_, ?_⟩, i4, ?_, ?_, ?_, ?_⟩
  · intro x hx
    have h := r3 x hx
    by_cases e : x = t
    · subst e; rw [pc_us]; exact ⟨h.1, h.2.1, h.2.2.1, hs0⟩
    · rw [pc_un e]; exact h
  · intro s m' hs h
    by_cases e : s = t
    · subst e
      rw [hht] at h
      rw [pc_us, hkt, ← Option.some.inj h]
      exact ⟨hT, hM, rfl⟩
    · rw [hh s e (by omega)] at h
      rw [pc_un e, hk s e (by omega)]
      exact q1 s m' hs h
  · intro m' l hm2 h
    rw [hh _ (by omega) (by omega)] at h
    rw [hk _ (by omega) (by omega)]
    exact q2 m' l hm2 h
  · intro s s' m' hs hs' h1 h2 hsn
    by_cases e : s = t
    · by_cases e' : s' = t
      · rw [e, e']
      · exfalso
        rw [hh s' e' (by omega)] at h2
        rw [e, pc_us, pc_un e'] at hsn
        have := hfresh s' hs' (by rw [h2]; exact fun z => nomatch z)
        omega
    · by_cases e' : s' = t
      · exfalso
        rw [hh s e (by omega)] at h1
        rw [e', pc_us, pc_un e] at hsn
        have := hfresh s hs (by rw [h1]; exact fun z => nomatch z)
        omega
      · rw [hh s e (by omega)] at h1
        rw [hh s' e' (by omega)] at h2
        rw [pc_un e, pc_un e'] at hsn
        exact q3 s s' m' hs hs' h1 h2 hsn
  · intro s hs h
    by_cases e : s = t
    · subst e
      exact ⟨by rw [hht]; exact (fun z => nomatch z), hkb h⟩
    · rw [hh _ (by omega) (by omega)] at h
      rw [hh _ e (by omega), hk _ (by omega) (by omega)]
      exact q4 s hs h
  · intro m' hm2 e
    have h := i5 m' hm2 id
    unfold pc_CO
    rw [hf m' e (by omega), hh _ (by omega) (by omega), hk _ (by omega) (by omega)]
    exact h
  · intro m' hm2 e
    unfold pc_CF
    rw [hf m' e (by omega)]
    exact i6 m' hm2 id
  · intro s hs _
    have h := i7 s hs id
    unfold pc_CD at h ⊢
    rw [pc_dd_c (hf (16 + s) (by omega) (by omega)) (fun n hn => ?_)]
    · exact h
    · have h1 := pc_L_some i1 (by omega) hn
      have h2 := pc_L_cls i1 h1.1 h1.2.1
      exact hk n (by omega) (by omega)
  · intro s hs e
    have h := i8 s hs id
    unfold pc_CR at h ⊢
    rw [h]
    exact (pc_rd_c (hh s e (by omega)) rfl (fun _ _ => Iff.rfl)).symm
theorem px_bw58 {post : SX → Prop} {t m : Nat} (I : (pc_XI pc_0 (fun y => y = t) (fun y => y = m) (fun y => y = m) T M ba ef du ho oF sn fi nx pv hm ky lv)) (hT : t < T) (hm' : m < 16)
    (K : ∀ du' oF' fi' nx' pv' hm' ky' lv', (pc_XI pc_0 pc_0 pc_0 pc_0 T M ba ef du' ho oF' sn fi' nx' pv' hm' ky' lv') → (∀ n, n < 16 ∨ 32 ≤ n → hm' n = hm n ∧ ky' n = ky n) →
      post (pc_X T M g wb nw ba ef du' ho oF' sn dp fi' nx' pv' hm' ky' lv')) : wX_beginWait_58 post (nI t) (nI m) 0 1 (nI T) (nI M) (nI g) (lN wb) (lN nw) (fun j => nI (ba j)) (fun j => nI (ef j)) (fun j => nI (du j)) (fun j => pc_o (ho j)) (fun j => pc_o (oF j)) (fun j => lN (sn j)) (fun j => nI (dp j)) (fun j => pc_o (fi j)) (fun j => pc_o (nx j)) (fun j => pc_o (pv j)) (fun j => pc_o (hm j)) (fun j => lN (ky j)) (pc_BU lv) (pc_OC lv) (fun j => pc_o (lv j)) (pc_ME lv) := by
  unfold wX_beginWait_58
  refine px_sync I hm' (fun du' oF' fi' nx' pv' hm' ky' lv' J hk => ?_)
  refine px_rdy J hT (fun lv2 J2 => ?_)
  exact K _ _ _ _ _ _ _ _ (pi_mono (fun _ _ z => z) (fun _ _ z => absurd z.1 z.2) (fun _ z => z) (fun _ z => z) J2) hk
theorem px_beginWait {post : SX → Prop} {t m : Nat} {lim : Int32} (I : (pc_XI pc_0 pc_0 pc_0 pc_0 T M ba ef du ho oF sn fi nx pv hm ky lv)) (hT : t < T) (hM : m < M) (htm : hm t = none) (hwb : wb + 1 < 2 ^ 58) (hnw : nw < 2 ^ 60) (hfresh : ∀ s, s < 16 → hm s ≠ none → sn s < wb + 1)
    (K : ∀ du' oF' fi' nx' pv' hm' ky' lv', (pc_XI pc_0 pc_0 pc_0 pc_0 T M ba ef du' ho oF' (pc_u sn t (wb + 1)) fi' nx' pv' hm' ky' lv') → hm' t = some m → (∀ n, n < 16 ∨ 32 ≤ n → n ≠ t → n ≠ 32 + t → hm' n = hm n ∧ ky' n = ky n) →
      (pc_cl lim 0 60 = 0 → hm' (32 + t) = none) → (0 < pc_cl lim 0 60 → hm' (32 + t) = some 32 ∧ ky' (32 + t) = nw + pc_cl lim 0 60) →
      post (pc_X T M g (wb + 1) nw ba ef du' ho oF' (pc_u sn t (wb + 1)) dp fi' nx' pv' hm' ky' lv')) : wpX_beginWait post (pc_X T M g wb nw ba ef du ho oF sn dp fi nx pv hm ky lv) (nI t) (nI m) lim := by
  have h16 : t < 16 := Nat.lt_of_lt_of_le hT I.2.1.1
  have hm16 : m < 16 := Nat.lt_of_lt_of_le hM I.2.1.2.1
  have hr := I.2.1.2.2.1 t h16
  have h32 : hm (32 + t) = none := by
    cases c : hm (32 + t) with
    | none => rfl
    | some l => exact absurd htm (I.2.2.1.2.2.2 t h16 (by rw [c]; exact fun z => nomatch z)).1
  unfold wpX_beginWait
  refine nm_r (lN_1 wb) ⟨vp_in_nI h16 (by decide), nm_r (pc_cL (by omega)) ?_⟩
  refine px_enqueue I.1 h16 hm16 htm hr.2.1 (by rw [pc_us]; exact hwb) (fun x hx h => pi_kyb I hm16 hx h) (fun fi1 nx1 pv1 hf1 hL1 => ?_)
  rw [pc_us] at hL1 ⊢
  by_cases h0 : lim ≤ 0
  · have hz := pc_cl_z h0
    refine br_t h0 ?_
    refine px_bw58 (pi_begin (s0 := wb + 1) I hT hM htm hwb hfresh (fun l h2 _ => hf1 l h2) (fun n h2 _ => pc_un h2) pc_us (fun n h2 _ => pc_un h2) pc_us ?_ hL1) hT hm16 (fun du' oF' fi' nx' pv' hm' ky' lv' J hk => ?_)
    · intro z
      rw [pc_un (by omega), h32] at z
      exact absurd rfl z
    · refine K _ _ _ _ _ _ _ _ J (by rw [(hk t (Or.inl h16)).1, pc_us]) (fun n hn h2 h3 => ?_) (fun _ => by rw [(hk (32 + t) (Or.inr (by omega))).1, pc_un (by omega), h32]) (fun z => by omega)
      have := hk n hn
      rw [pc_un h2, pc_un h2] at this
      exact this
  · obtain ⟨hc1, hc2, hc3⟩ := pc_cl_p h0
    refine br_f h0 ?_
    refine px_clamp (lo := 1) (hi := 60) (by decide) (by decide) ?_
    rw [hc1, nI_l (by omega), lN_add, pc_32 t]
    refine px_insert (L := 32) hL1 (by decide) (by omega) (by omega) (by rw [pc_un (by omega), h32]) (by omega) (fun x hx h => ?_) (fun fi2 nx2 pv2 hf2 hL2 => ?_)
    · by_cases e : x = t
      · rw [e, pc_us] at h
        have := Option.some.inj h
        omega
      · rw [pc_un e] at h
        rw [pc_un e]
        have h1 := pc_L_cls I.1 hx h
        have h2 := (I.2.2.1.2.2.2 (x - 32) (by omega) (by rw [show 32 + (x - 32) = x from by omega, h]; exact fun z => nomatch z)).2
        rw [show 32 + (x - 32) = x from by omega] at h2
        omega
    · refine px_bw58 (pi_begin (s0 := wb + 1) I hT hM htm hwb hfresh (fun l h2 h3 => (hf2 l h3).trans (hf1 l h2)) (fun n h2 h3 => by rw [pc_un h3, pc_un h2]) (by rw [pc_un (by omega), pc_us]) (fun n h2 h3 => by rw [pc_un h3, pc_un h2]) (by rw [pc_un (by omega), pc_us]) ?_ hL2) hT hm16 (fun du' oF' fi' nx' pv' hm' ky' lv' J hk => ?_)
      · intro _
        rw [pc_us]
        omega
      · refine K _ _ _ _ _ _ _ _ J (by rw [(hk t (Or.inl h16)).1, pc_un (by omega), pc_us]) (fun n hn h2 h3 => ?_) (fun z => by omega) (fun _ => ?_)
        · have := hk n hn
          rw [pc_un h3, pc_un h2, pc_un h3, pc_un h2] at this
          exact this
        · have := hk (32 + t) (Or.inr (by omega))
          rw [pc_us, pc_us] at this
          exact this
end
end
section
/-! own rows: the reference's state by its numbers; its questions -/
abbrev pc_Y (T M g ck : Nat) (ba ef : Nat → Nat) (ho wa : Nat → Option Nat) (lf bg fr : Nat → Nat) : SY :=
  (nI T, nI M, nI g, lN ck, fun j => nI (ba j), fun j => nI (ef j), fun j => pc_o (ho j), fun j => pc_o (wa j), fun j => nI (lf j), fun j => lN (bg j), fun j => nI (fr j))
def pc_bk (wa ho : Nat → Option Nat) (t : Nat) : Option Nat := match wa t with
  | none => none
  | some m => ho m
def pc_pb (wa : Nat → Option Nat) (ef bg : Nat → Nat) (t x : Nat) : Bool := decide (x ≠ t ∧ wa x = wa t ∧ (ef t < ef x ∨ (ef x = ef t ∧ bg x < bg t)))
def pc_pl (T : Nat) (wa : Nat → Option Nat) (ef bg : Nat → Nat) (t : Nat) : Nat := pc_ct (pc_pb wa ef bg t) T
def pc_mx (p : Nat → Bool) (f : Nat → Nat) (b : Nat) : Nat → Nat
  | 0 => b
  | n + 1 => if p n = true then (if f n ≤ pc_mx p f b n then pc_mx p f b n else f n) else pc_mx p f b n
def pc_yd (T : Nat) (ba ef : Nat → Nat) (wa ho : Nat → Option Nat) (t : Nat) : Nat := pc_mx (fun x => decide (pc_bk wa ho x = some t)) ef (ba t) T
def pc_w (o : Option Nat) : Int32 := match o with
  | none => 100
  | some x => nI x
theorem pc_mx_b {p : Nat → Bool} {f : Nat → Nat} {b : Nat} : ∀ n, b ≤ pc_mx p f b n ∧ (∀ i, i < n → p i = true → f i ≤ pc_mx p f b n) ∧ (pc_mx p f b n = b ∨ ∃ i, i < n ∧ p i = true ∧ pc_mx p f b n = f i)
  | 0 => ⟨Nat.le_refl _, fun i hi => by omega, Or.inl rfl⟩
  | n + 1 => by
    obtain ⟨h1, h2, h3⟩ := pc_mx_b (p := p) (f := f) (b := b) n
    have e : pc_mx p f b (n + 1) = if p n = true then (if f n ≤ pc_mx p f b n then pc_mx p f b n else f n) else pc_mx p f b n := rfl
    have h3' : pc_mx p f b n = b ∨ ∃ i, i < n + 1 ∧ p i = true ∧ pc_mx p f b n = f i := h3.elim Or.inl (fun ⟨i, a, c⟩ => Or.inr ⟨i, by omega, c⟩)
    rw [e]
    by_cases c : p n = true
    · rw [if_pos c]
      by_cases d : f n ≤ pc_mx p f b n
      · rw [if_pos d]
        refine ⟨h1, fun i hi hp => ?_, h3'⟩
        rcases Nat.lt_or_ge i n with z | z
        · exact h2 i z hp
        · have : i = n := by omega
          rw [this]; exact d
      · rw [if_neg d]
        refine ⟨by omega, fun i hi hp => ?_, Or.inr ⟨n, by omega, c, rfl⟩⟩
        rcases Nat.lt_or_ge i n with z | z
        · have := h2 i z hp; omega
        · have : i = n := by omega
          rw [this]; exact Nat.le_refl _
    · rw [if_neg c]
      refine ⟨h1, fun i hi hp => ?_, h3'⟩
      rcases Nat.lt_or_ge i n with z | z
      · exact h2 i z hp
      · have : i = n := by omega
        exact absurd (this ▸ hp) c
theorem pc_vt {post : Int32 → Prop} {n j : Nat} (hn : n < 2 ^ 31) (hj : j < n) (K : post 1) : ((nI j < 0 → post 0) ∧ (¬ nI j < 0 → (((nI n ≤ nI j → post 0) ∧ (¬ nI n ≤ nI j → post 1))))) :=
  br_f (nI_pos (by omega)) (br_f (nI_ge hj hn) K)
theorem pc_vf {post : Int32 → Prop} {n : Nat} {x : Int32} (h : x < 0 ∨ nI n ≤ x) (K : post 0) : ((x < 0 → post 0) ∧ (¬ x < 0 → (((nI n ≤ x → post 0) ∧ (¬ nI n ≤ x → post 1))))) :=
  br_c (fun _ => K) (fun z => br_t (h.elim (fun y => absurd y z) id) K)
section
variable {T M g wb nw : Nat} {ba ef du sn dp ky : Nat → Nat} {ho oF fi nx pv hm lv : Nat → Option Nat}
theorem px_isM {post : Int32 → Prop} {m : Nat} (hM : M < 2 ^ 31) (h : m < M) (K : post 1) : wpX_validMutex post (pc_X T M g wb nw ba ef du ho oF sn dp fi nx pv hm ky lv) (nI m) := pc_vt (post := post) hM h K
theorem px_isT {post : Int32 → Prop} {t : Nat} (hT : T < 2 ^ 31) (h : t < T) (K : post 1) : wpX_validTask post (pc_X T M g wb nw ba ef du ho oF sn dp fi nx pv hm ky lv) (nI t) := pc_vt (post := post) hT h K
theorem px_noM {post : Int32 → Prop} {x : Int32} (h : x < 0 ∨ nI M ≤ x) (K : post 0) : wpX_validMutex post (pc_X T M g wb nw ba ef du ho oF sn dp fi nx pv hm ky lv) x := pc_vf (post := post) h K
theorem px_noT {post : Int32 → Prop} {x : Int32} (h : x < 0 ∨ nI T ≤ x) (K : post 0) : wpX_validTask post (pc_X T M g wb nw ba ef du ho oF sn dp fi nx pv hm ky lv) x := pc_vf (post := post) h K
end
section
variable {T M g ck : Nat} {ba ef lf bg fr : Nat → Nat} {ho wa : Nat → Option Nat}
theorem py_isM {post : Int32 → Prop} {m : Nat} (hM : M < 2 ^ 31) (h : m < M) (K : post 1) : wpY_isMutex post (pc_Y T M g ck ba ef ho wa lf bg fr) (nI m) := pc_vt (post := post) hM h K
theorem py_isT {post : Int32 → Prop} {t : Nat} (hT : T < 2 ^ 31) (h : t < T) (K : post 1) : wpY_isTask post (pc_Y T M g ck ba ef ho wa lf bg fr) (nI t) := pc_vt (post := post) hT h K
theorem py_noM {post : Int32 → Prop} {x : Int32} (h : x < 0 ∨ nI M ≤ x) (K : post 0) : wpY_isMutex post (pc_Y T M g ck ba ef ho wa lf bg fr) x := pc_vf (post := post) h K
theorem py_noT {post : Int32 → Prop} {x : Int32} (h : x < 0 ∨ nI T ≤ x) (K : post 0) : wpY_isTask post (pc_Y T M g ck ba ef ho wa lf bg fr) x := pc_vf (post := post) h K
theorem py_blocker {post : Int32 → Prop} {t : Nat} (ht : t < 16) (hw : ∀ m, wa t = some m → m < 16) (K : post (pc_o (pc_bk wa ho t))) : wpY_blocker post (pc_Y T M g ck ba ef ho wa lf bg fr) (nI t) := by
  unfold wpY_blocker
  rw [nI_clamp (by omega : t < 2 ^ 31)]
  refine ⟨vp_in_nI ht (by decide), nm_r (e' := pc_o (wa t)) rfl ?_⟩
  unfold pc_bk at K
  cases c : wa t with
  | none => rw [c] at K; exact br_f pc_on' K
  | some m =>
    rw [c] at K
    have := hw m c
    have cm : (pc_o (some m)).toNatClampNeg = m := nI_clamp (by omega)
    refine br_t (pc_os' (by omega)) ⟨vp_in_nI this (by decide), ?_⟩
    rw [cm]
    exact K
theorem py_place4 {post : Int32 → Prop} {t : Nat} (ht : t < 16) (hT : T ≤ 16) (hw : ∀ x m, x < 16 → wa x = some m → m < 16) (he : ∀ x, x < 16 → ef x < 32) (hb : ∀ x, x < 16 → bg x < 2 ^ 58) (K : post (nI (pc_pl T wa ef bg t))) :
    ∀ (d i n : Nat), i + d = T → d < n → wY_place_4 post (nI t) (nI T) (nI M) (nI g) (lN ck) (fun j => nI (ba j)) (fun j => nI (ef j)) (fun j => pc_o (ho j)) (fun j => pc_o (wa j)) (fun j => nI (lf j)) (fun j => lN (bg j)) (fun j => nI (fr j)) n (nI (pc_ct (pc_pb wa ef bg t) i)) (nI i)
  | 0, i, n + 1, h, _ => by
    have e : i = T := by omega
    subst e
    exact br_t (nI_le (Nat.le_refl _) (by omega)) K
  | d + 1, i, n + 1, h, hn => by
    have ih := py_place4 ht hT hw he hb K d (i + 1) n (by omega) (by omega)
    have hi : i < 16 := by omega
    have ii : vp_in (nI i) 16 := vp_in_nI hi (by decide)
    have it : vp_in (nI t) 16 := vp_in_nI ht (by decide)
    have ei : pc_ct (pc_pb wa ef bg t) (i + 1) = pc_ct (pc_pb wa ef bg t) i + (if pc_pb wa ef bg t i = true then 1 else 0) := rfl
    have e1 : nI i + 1 = nI (i + 1) := nI_1 i
    have wi : ∀ n, wa i = some n → n < 2 ^ 31 := fun n hn => Nat.lt_trans (hw i n hi hn) (by decide)
    have wt : ∀ n, wa t = some n → n < 2 ^ 31 := fun n hn => Nat.lt_trans (hw t n ht hn) (by decide)
    have hei := he i hi
    have het := he t ht
    have hbi := hb i hi
    have hbt := hb t ht
    by_cases c : pc_pb wa ef bg t i = true
    · have c' := of_decide_eq_true c
      obtain ⟨c1, c2, c3⟩ := c'
      rw [ei, if_pos c] at ih
      refine br_f (nI_ge (by omega) (by omega)) (br_f (fun z => c1 ((nI_eq (by omega) (by omega)).mp z)) ⟨ii, it, ?_⟩)
      rw [nI_clamp (by omega : i < 2 ^ 31), nI_clamp (by omega : t < 2 ^ 31)]
      refine br_t (congrArg pc_o c2) ⟨ii, it, ?_⟩
      rcases c3 with c3 | ⟨c3, c4⟩
      · exact br_t (nI_lt c3 (by omega)) (nm_r (nI_1 _) (nm_r e1 ih))
      · refine br_f (nI_nlt (by omega) (by omega)) ⟨ii, it, br_t (congrArg nI c3) ⟨ii, it, br_f ?_ (nm_r (nI_1 _) (nm_r e1 ih))⟩⟩
        intro z
        have := (pk_lLE (by omega) (by omega)).mp z
        omega
    · rw [ei, if_neg c] at ih
      have c' : ¬ (i ≠ t ∧ wa i = wa t ∧ (ef t < ef i ∨ (ef i = ef t ∧ bg i < bg t))) := fun z => c (decide_eq_true z)
      refine br_f (nI_ge (by omega) (by omega)) ?_
      rw [nI_clamp (by omega : i < 2 ^ 31), nI_clamp (by omega : t < 2 ^ 31)]
      refine br_c (fun _ => nm_r e1 ih) (fun z1 => ⟨ii, it, br_c (fun z2 => ⟨ii, it, br_c (fun z3 => ?_) (fun z3 => ⟨ii, it, br_c (fun z4 => ⟨ii, it, br_c (fun z5 => nm_r e1 ih) (fun z5 => ?_)⟩) (fun z4 => nm_r e1 ih)⟩)⟩) (fun z2 => nm_r e1 ih)⟩)
      · exfalso
        refine c' ⟨fun e => z1 (congrArg nI e), pc_oinj wi wt z2, Or.inl ((nI_ltI (by omega) (by omega)).mp z3)⟩
      · exfalso
        refine c' ⟨fun e => z1 (congrArg nI e), pc_oinj wi wt z2, Or.inr ⟨(nI_eq (by omega) (by omega)).mp z4, ?_⟩⟩
        rcases Nat.lt_or_ge (bg i) (bg t) with y | y
        · exact y
        · exact absurd ((pk_lLE (by omega) (by omega)).mpr y) z5
theorem py_place {post : Int32 → Prop} {t : Nat} (ht : t < 16) (hT : T ≤ 16) (hw : ∀ x m, x < 16 → wa x = some m → m < 16) (he : ∀ x, x < 16 → ef x < 32) (hb : ∀ x, x < 16 → bg x < 2 ^ 58) (K : post (nI (pc_pl T wa ef bg t))) : wpY_place post (pc_Y T M g ck ba ef ho wa lf bg fr) (nI t) :=
  ⟨T + 1, py_place4 ht hT hw he hb K T 0 (T + 1) (by omega) (by omega)⟩
theorem py_due9 {post : Int32 → Prop} {t : Nat} (hT : T ≤ 16) (ht : t < 16) (hw : ∀ x m, x < 16 → wa x = some m → m < 16) (hho : ∀ m o, m < 16 → ho m = some o → o < 16) (he : ∀ x, x < 16 → ef x < 32) (hb : ba t < 32) (K : post (nI (pc_yd T ba ef wa ho t))) :
    ∀ (d i n : Nat), i + d = T → d < n → wY_due_9 post (nI t) (nI T) (nI M) (nI g) (lN ck) (fun j => nI (ba j)) (fun j => nI (ef j)) (fun j => pc_o (ho j)) (fun j => pc_o (wa j)) (fun j => nI (lf j)) (fun j => lN (bg j)) (fun j => nI (fr j)) n (nI (pc_mx (fun x => decide (pc_bk wa ho x = some t)) ef (ba t) i)) (nI i)
  | 0, i, n + 1, h, _ => by
    have e : i = T := by omega
    subst e
    exact br_t (nI_le (Nat.le_refl _) (by omega)) K
  | d + 1, i, n + 1, h, hn => by
    have ih := py_due9 hT ht hw hho he hb K d (i + 1) n (by omega) (by omega)
    have hi : i < 16 := by omega
    have ii : vp_in (nI i) 16 := vp_in_nI hi (by decide)
    have e1 : nI i + 1 = nI (i + 1) := nI_1 i
    have hei := he i hi
    have hmx : pc_mx (fun x => decide (pc_bk wa ho x = some t)) ef (ba t) i < 32 := by
      rcases (pc_mx_b (p := fun x => decide (pc_bk wa ho x = some t)) (f := ef) (b := ba t) i).2.2 with z | ⟨j, hj, _, z⟩
      · rw [z]; exact hb
      · rw [z]; exact he j (by omega)
    have bkb : ∀ n, pc_bk wa ho i = some n → n < 2 ^ 31 := fun n hn => by
      unfold pc_bk at hn
      cases c : wa i with
      | none => rw [c] at hn; exact nomatch hn
      | some m => rw [c] at hn; exact Nat.lt_trans (hho m n (hw i m hi c) hn) (by decide)
    have em : pc_mx (fun x => decide (pc_bk wa ho x = some t)) ef (ba t) (i + 1) = if decide (pc_bk wa ho i = some t) = true then (if ef i ≤ pc_mx (fun x => decide (pc_bk wa ho x = some t)) ef (ba t) i then pc_mx (fun x => decide (pc_bk wa ho x = some t)) ef (ba t) i else ef i) else pc_mx (fun x => decide (pc_bk wa ho x = some t)) ef (ba t) i := rfl
    refine br_f (nI_ge (by omega) (by omega)) (py_blocker hi (hw i · hi) ?_)
    by_cases c : pc_bk wa ho i = some t
    · rw [em, if_pos (decide_eq_true c)] at ih
      refine br_t (congrArg pc_o c) ⟨ii, ?_⟩
      rw [nI_clamp (by omega : i < 2 ^ 31)]
      by_cases f : ef i ≤ pc_mx (fun x => decide (pc_bk wa ho x = some t)) ef (ba t) i
      · rw [if_pos f] at ih
        exact br_t ((nI_leI (by omega) (by omega)).mpr f) (nm_r e1 ih)
      · rw [if_neg f] at ih
        exact br_f (fun z => f ((nI_leI (by omega) (by omega)).mp z)) ⟨ii, nm_e (nm_r e1 ih)⟩
    · rw [em, if_neg (by rw [decide_eq_false c]; exact fun z => nomatch z)] at ih
      exact br_f (fun z => c (pc_oinj (b := some t) bkb (fun n hn => by have := Option.some.inj hn; omega) z)) (nm_r e1 ih)
theorem py_due {post : Int32 → Prop} {t : Nat} (hT : T ≤ 16) (ht : t < 16) (hw : ∀ x m, x < 16 → wa x = some m → m < 16) (hho : ∀ m o, m < 16 → ho m = some o → o < 16) (he : ∀ x, x < 16 → ef x < 32) (hb : ba t < 32) (K : post (nI (pc_yd T ba ef wa ho t))) : wpY_due post (pc_Y T M g ck ba ef ho wa lf bg fr) (nI t) := by
  unfold wpY_due
  rw [nI_clamp (by omega : t < 2 ^ 31)]
  exact ⟨vp_in_nI ht (by decide), nm_e ⟨T + 1, py_due9 hT ht hw hho he hb K T 0 (T + 1) (by omega) (by omega)⟩⟩
theorem pc_yd_b {t : Nat} (hT : T ≤ 16) (he : ∀ x, x < 16 → ef x < 32) (hb : ba t < 32) : pc_yd T ba ef wa ho t < 32 := by
  rcases (pc_mx_b (p := fun x => decide (pc_bk wa ho x = some t)) (f := ef) (b := ba t) T).2.2 with z | ⟨j, hj, _, z⟩
  · unfold pc_yd; rw [z]; exact hb
  · unfold pc_yd; rw [z]; exact he j (by omega)
theorem py_stale {post : Int32 → Prop} {t : Nat} (hT : T ≤ 16) (ht : t < 16) (hw : ∀ x m, x < 16 → wa x = some m → m < 16) (hho : ∀ m o, m < 16 → ho m = some o → o < 16) (he : ∀ x, x < 16 → ef x < 32) (hb : ba t < 32)
    (K0 : pc_yd T ba ef wa ho t = ef t → post 0) (K1 : pc_yd T ba ef wa ho t ≠ ef t → post 1) : wpY_stale post (pc_Y T M g ck ba ef ho wa lf bg fr) (nI t) := by
  unfold wpY_stale
  have h1 := pc_yd_b (wa := wa) (ho := ho) (t := t) hT he hb
  have h2 := he t ht
  rw [nI_clamp (by omega : t < 2 ^ 31)]
  refine ⟨vp_in_nI ht (by decide), py_due hT ht hw hho he hb ?_⟩
  exact br_c (fun z => K0 ((nI_eq (by omega) (by omega)).mp z).symm) (fun z => K1 (fun e => z (congrArg nI e.symm)))
theorem py_waiter13 {post : Int32 → Prop} {m : Nat} {p : Int32} {W : Option Nat} (hT : T ≤ 16) (hm16 : m < 16) (hw : ∀ x m, x < 16 → wa x = some m → m < 16) (he : ∀ x, x < 16 → ef x < 32) (hb : ∀ x, x < 16 → bg x < 2 ^ 58)
    (h1 : ∀ x, W = some x → x < T ∧ wa x = some m ∧ nI (pc_pl T wa ef bg x) = p) (h2 : ∀ x, x < T → wa x = some m → nI (pc_pl T wa ef bg x) = p → W = some x) (K : post (pc_w W)) :
    ∀ (d i n : Nat), i + d = T → d < n → (∀ x, W = some x → i ≤ x) → wY_waiter_13 post (nI m) p (nI T) (nI M) (nI g) (lN ck) (fun j => nI (ba j)) (fun j => nI (ef j)) (fun j => pc_o (ho j)) (fun j => pc_o (wa j)) (fun j => nI (lf j)) (fun j => lN (bg j)) (fun j => nI (fr j)) n (nI i)
  | 0, i, n + 1, h, _, hx => by
    have e : W = none := by
      cases c : W with
      | none => rfl
      | some x => have a := (h1 x c).1; have b := hx x c; omega
    rw [e] at K
    exact br_t (nI_le (by omega) (by omega)) K
  | d + 1, i, n + 1, h, hn, hx => by
    have hi : i < 16 := by omega
    have ii : vp_in (nI i) 16 := vp_in_nI hi (by decide)
    have e1 : nI i + 1 = nI (i + 1) := nI_1 i
    have ih : W ≠ some i → _ := fun hne => py_waiter13 hT hm16 hw he hb h1 h2 K d (i + 1) n (by omega) (by omega) (fun x c => by
      have := hx x c
      have : x ≠ i := fun e => hne (e ▸ c)
      omega)
    refine br_f (nI_ge (by omega) (by omega)) ⟨ii, ?_⟩
    rw [nI_clamp (by omega : i < 2 ^ 31)]
    by_cases c : wa i = some m
    · refine br_t (congrArg pc_o c) (py_place hi hT hw he hb ?_)
      by_cases f : nI (pc_pl T wa ef bg i) = p
      · have e := h2 i (by omega) c f
        rw [e] at K
        exact br_t f K
      · exact br_f f (nm_r e1 (ih (fun e => f (h1 i e).2.2)))
    · refine br_f (fun z => c (pc_oinj (b := some m) (fun n hn => Nat.lt_trans (hw i n hi hn) (by decide)) (fun n hn => by have := Option.some.inj hn; omega) z)) (nm_r e1 (ih (fun e => c (h1 i e).2.1)))
theorem py_waiter {post : Int32 → Prop} {m : Nat} {p : Int32} {W : Option Nat} (hT : T ≤ 16) (hM : M ≤ 16) (hm' : m < M) (hw : ∀ x m, x < 16 → wa x = some m → m < 16) (he : ∀ x, x < 16 → ef x < 32) (hb : ∀ x, x < 16 → bg x < 2 ^ 58)
    (h1 : ∀ x, W = some x → x < T ∧ wa x = some m ∧ nI (pc_pl T wa ef bg x) = p) (h2 : ∀ x, x < T → wa x = some m → nI (pc_pl T wa ef bg x) = p → W = some x) (K : post (pc_w W)) : wpY_waiter post (pc_Y T M g ck ba ef ho wa lf bg fr) (nI m) p := by
  unfold wpY_waiter
  refine py_isM (by omega) hm' ?_
  refine br_f (by decide) ⟨T + 1, ?_⟩
  exact py_waiter13 hT (by omega) hw he hb h1 h2 K T 0 (T + 1) (by omega) (by omega) (fun _ _ => Nat.zero_le _)
end
end
section
/-! own rows: what the invariant says in the reference's words -/
theorem pc_lex {p q s s' B : Nat} (hs : s < B) (hs' : s' < B) : p * B + s < q * B + s' ↔ p < q ∨ (p = q ∧ s < s') := by
  rcases Nat.lt_trichotomy p q with h | h | h
  · have := Nat.mul_le_mul_right B h
    rw [Nat.succ_mul] at this
    exact ⟨fun _ => Or.inl h, fun _ => by omega⟩
  · subst h
    exact ⟨fun z => Or.inr ⟨rfl, by omega⟩, fun z => by omega⟩
  · have := Nat.mul_le_mul_right B h
    rw [Nat.succ_mul] at this
    exact ⟨fun z => by omega, fun z => by omega⟩
theorem pc_keylt {a b s s' : Nat} (ha : a < 32) (hb : b < 32) (hs : s < 2 ^ 58) (hs' : s' < 2 ^ 58) : (31 - a) * 2 ^ 58 + s < (31 - b) * 2 ^ 58 + s' ↔ b < a ∨ (a = b ∧ s < s') := by
  rw [pc_lex hs hs']
  omega
theorem pc_maxu {T : Nat} {P : Nat → Prop} {f : Nat → Nat} {b u v : Nat} (h1 : b ≤ u) (h2 : ∀ y, y < T → P y → f y ≤ u) (h3 : u = b ∨ ∃ y, y < T ∧ P y ∧ u ≤ f y)
    (k1 : b ≤ v) (k2 : ∀ y, y < T → P y → f y ≤ v) (k3 : v = b ∨ ∃ y, y < T ∧ P y ∧ v ≤ f y) : u = v := by
  apply Nat.le_antisymm
  · rcases h3 with z | ⟨y, hy, hp, z⟩
    · omega
    · exact Nat.le_trans z (k2 y hy hp)
  · rcases k3 with z | ⟨y, hy, hp, z⟩
    · omega
    · exact Nat.le_trans z (h2 y hy hp)
theorem pc_bk_s {wa ho : Nat → Option Nat} {y t : Nat} (h : pc_bk wa ho y = some t) : ∃ m, wa y = some m ∧ ho m = some t := by
  unfold pc_bk at h
  cases c : wa y with
  | none => rw [c] at h; exact nomatch h
  | some m => rw [c] at h; exact ⟨m, rfl, h⟩
theorem pc_bk_m {wa ho : Nat → Option Nat} {y t m : Nat} (h1 : wa y = some m) (h2 : ho m = some t) : pc_bk wa ho y = some t := by
  unfold pc_bk
  rw [h1]
  exact h2
theorem pc_bk_c {wa wa' ho : Nat → Option Nat} {y : Nat} (h : wa' y = wa y) : pc_bk wa' ho y = pc_bk wa ho y := by
  unfold pc_bk
  rw [h]
section
variable {T M g wb nw : Nat} {ba ef du sn dp ky : Nat → Nat} {ho oF fi nx pv hm lv : Nat → Option Nat} {E R A B : Nat → Prop} {wa : Nat → Option Nat} {bg : Nat → Nat}
theorem pi_ord (I : (pc_XI E R A B T M ba ef du ho oF sn fi nx pv hm ky lv)) {m x y : Nat} (hm' : m < 16) (hx : x < 16) (hy : y < 16) (hxm : hm x = some m) (hym : hm y = some m) : ky x < ky y ↔ ef y < ef x ∨ (ef x = ef y ∧ sn x < sn y) := by
  have a := I.2.2.1.1 x m hx hxm
  have b := I.2.2.1.1 y m hy hym
  have c := I.2.1.2.2.1 x hx
  have d := I.2.1.2.2.1 y hy
  rw [a.2.2, b.2.2]
  exact pc_keylt c.2.1 d.2.1 c.2.2.2 d.2.2.2
theorem pi_dd (I : (pc_XI pc_0 pc_0 pc_0 pc_0 T M ba ef du ho oF sn fi nx pv hm ky lv)) {t : Nat} (ht : t < T) :
    ba t ≤ du t ∧ (∀ y, y < T → pc_bk hm ho y = some t → ef y ≤ du t) ∧ (du t = ba t ∨ ∃ y, y < T ∧ pc_bk hm ho y = some t ∧ du t ≤ ef y) := by
  have h16 : t < 16 := Nat.lt_of_lt_of_le ht I.2.1.1
  have hT16 := I.2.1.1
  have hd := (I.2.2.2.2.2.2.1 t ht id).1
  have key : ∀ y m, y < T → hm y = some m → ho m = some t → ∃ x, x < T ∧ fi m = some x ∧ hm x = some m ∧ ef y ≤ ef x ∧ hm (16 + m) = some (16 + t) ∧ ky (16 + m) = 31 - ef x := by
    intro y m hy hym hmt
    have hm16 := (pi_m16 I (by omega) hym).1
    obtain ⟨x, hx⟩ := pc_L_ex I.1 (by omega) (by omega : y < 48) hym
    obtain ⟨x16, xT, xm⟩ := pi_top I hm16 hx
    have hc := (I.2.2.2.2.1 m hm16 id).1 t x hmt hx
    refine ⟨x, xT, hx, xm, ?_, hc.1, hc.2⟩
    have hle := (pc_L_some I.1 (by omega) hx).2.2 y (by omega) hym
    rcases Nat.lt_or_ge (ef x) (ef y) with z | z
    · exfalso
      have := (pi_ord I hm16 (by omega) x16 hym xm).mpr (Or.inl z)
      omega
    · exact z
  cases c : fi (16 + t) with
  | none =>
    have e : du t = ba t := by rw [hd]; unfold pc_dd; rw [c]
    refine ⟨by omega, ?_, Or.inl e⟩
    intro y hy hb
    obtain ⟨m, h1, h2⟩ := pc_bk_s hb
    obtain ⟨x, _, _, _, _, h3, _⟩ := key y m hy h1 h2
    have hm16 := (pi_m16 I (by omega) h1).1
    exact absurd h3 (pc_L_none I.1 (by omega) c (16 + m) (by omega))
  | some n =>
    obtain ⟨n48, k31, m, hm16, en, hmn⟩ := pi_16 I h16 c
    subst en
    have hmin := (pc_L_some I.1 (by omega) c).2.2
    have hco := I.2.2.2.2.1 m hm16 id
    have h1 : ∃ o, ho m = some o := by
      cases d : ho m with
      | none => rw [hco.2.1 d] at hmn; exact nomatch hmn
      | some o => exact ⟨o, rfl⟩
    have h2 : ∃ x, fi m = some x := by
      cases d : fi m with
      | none => rw [hco.2.2 d] at hmn; exact nomatch hmn
      | some x => exact ⟨x, rfl⟩
    obtain ⟨o, h1⟩ := h1
    obtain ⟨x, h2⟩ := h2
    have h3 := hco.1 o x h1 h2
    have eo : o = t := by
      have := h3.1.symm.trans hmn
      have := Option.some.inj this
      omega
    subst eo
    obtain ⟨x16, xT, xm⟩ := pi_top I hm16 h2
    have hex := (I.2.1.2.2.1 x x16).2.1
    have e : du o = if ef x ≤ ba o then ba o else ef x := by
      rw [hd]; unfold pc_dd; rw [c]
      show (if 31 - ky (16 + m) ≤ ba o then ba o else 31 - ky (16 + m)) = _
      rw [h3.2, show 31 - (31 - ef x) = ef x from by omega]
    have e1 : ba o ≤ du o ∧ ef x ≤ du o ∧ (du o = ba o ∨ du o = ef x) := by
      rw [e]
      by_cases z : ef x ≤ ba o
      · rw [if_pos z]; exact ⟨Nat.le_refl _, z, Or.inl rfl⟩
      · rw [if_neg z]; exact ⟨by omega, Nat.le_refl _, Or.inr rfl⟩
    refine ⟨e1.1, ?_, e1.2.2.elim Or.inl (fun z => Or.inr ⟨x, xT, pc_bk_m xm h1, by omega⟩)⟩
    intro y hy hb
    obtain ⟨m', h5, h6⟩ := pc_bk_s hb
    obtain ⟨x', x'T, _, _, h7, h8, h9⟩ := key y m' hy h5 h6
    have hm2 := (pi_m16 I (by omega) h5).1
    have hle := hmin (16 + m') (by omega) h8
    rw [h3.2, h9] at hle
    have := (I.2.1.2.2.1 x' (by omega)).2.1
    omega
theorem pi_yd (I : (pc_XI pc_0 pc_0 pc_0 pc_0 T M ba ef du ho oF sn fi nx pv hm ky lv)) (hwa : ∀ s, s < 16 → wa s = hm s) {t : Nat} (ht : t < T) : pc_yd T ba ef wa ho t = du t := by
  have hT16 := I.2.1.1
  obtain ⟨h1, h2, h3⟩ := pi_dd I ht
  obtain ⟨k1, k2, k3⟩ := pc_mx_b (p := fun x => decide (pc_bk wa ho x = some t)) (f := ef) (b := ba t) T
  refine pc_maxu (T := T) (P := fun y => pc_bk hm ho y = some t) (f := ef) (b := ba t) k1 ?_ ?_ h1 h2 h3
  · intro y hy hp
    exact k2 y hy (decide_eq_true (by rw [pc_bk_c (hwa y (by omega))]; exact hp))
  · rcases k3 with z | ⟨y, hy, hp, z⟩
    · exact Or.inl z
    · refine Or.inr ⟨y, hy, ?_, Nat.le_of_eq z⟩
      have := of_decide_eq_true hp
      rw [pc_bk_c (hwa y (by omega))] at this
      exact this
theorem pi_ct (I : (pc_XI E R A B T M ba ef du ho oF sn fi nx pv hm ky lv)) {ls : Nat → List Nat} (H : pc_LL ls fi nx pv hm ky) {m : Nat} (hm' : m < 16) (q : Nat → Bool) : pc_ct (fun x => decide (hm x = some m) && q x) T = (ls m).countP q := by
  have hT16 := I.2.1.1
  have hl : ∀ x ∈ ls m, x < T := fun x hx => by
    have a := (H.2.1 m x (by omega)).mp hx
    have b := H.2.2 x m a.1 a.2
    exact (I.2.2.1.1 x m (by omega) a.2).1
  rw [← pc_ct_l (q := q) (n := T) (l := ls m) (H.1 m (by omega)).2.2.1 hl]
  apply pc_ct_c
  intro x hx
  have : decide (hm x = some m) = decide (x ∈ ls m) := by
    apply decide_eq_decide.mpr
    rw [H.2.1 m x (by omega)]
    exact ⟨fun z => ⟨by omega, z⟩, fun z => z.2⟩
  rw [this]
theorem pi_strict (I : (pc_XI E R A B T M ba ef du ho oF sn fi nx pv hm ky lv)) {ls : Nat → List Nat} (H : pc_LL ls fi nx pv hm ky) {m : Nat} (hm' : m < 16) : (ls m).Pairwise (fun a b => ky a < ky b) := by
  obtain ⟨_, _, hn, hp⟩ := H.1 m (by omega)
  refine List.Pairwise.imp_of_mem ?_ (List.pairwise_and_iff.mpr ⟨hn, hp⟩)
  intro a b ha hb h
  have a1 := (H.2.1 m a (by omega)).mp ha
  have b1 := (H.2.1 m b (by omega)).mp hb
  have a2 := H.2.2 a m a1.1 a1.2
  have b2 := H.2.2 b m b1.1 b1.2
  rcases Nat.lt_or_ge (ky a) (ky b) with z | z
  · exact z
  · exfalso
    have e : ky a = ky b := by omega
    have n1 : ¬ ky a < ky b := by omega
    have n2 : ¬ ky b < ky a := by omega
    rw [pi_ord I hm' (by omega) (by omega) a1.2 b1.2] at n1
    rw [pi_ord I hm' (by omega) (by omega) b1.2 a1.2] at n2
    exact h.1 (I.2.2.1.2.2.1 a b m (by omega) (by omega) a1.2 b1.2 (by omega))
theorem pi_pl (I : (pc_XI pc_0 pc_0 pc_0 pc_0 T M ba ef du ho oF sn fi nx pv hm ky lv)) (hwa : ∀ s, s < 16 → wa s = hm s) (hbg : ∀ s, s < 16 → hm s ≠ none → sn s = bg s + 1) {ls : Nat → List Nat} (H : pc_LL ls fi nx pv hm ky) {m t : Nat} {a b : List Nat} (hm' : m < 16) (hab : ls m = a ++ t :: b) :
    pc_pl T wa ef bg t = a.length := by
  have hT16 := I.2.1.1
  have tm : t ∈ ls m := by rw [hab]; exact List.mem_append_right _ List.mem_cons_self
  have t1 := (H.2.1 m t (by omega)).mp tm
  have t2 := H.2.2 t m t1.1 t1.2
  have t16 : t < 16 := by omega
  have hst := pi_strict I H hm'
  have hc := pi_ct I H hm' (fun x => decide (ky x < ky t))
  have e : pc_pl T wa ef bg t = pc_ct (fun x => decide (hm x = some m) && decide (ky x < ky t)) T := by
    unfold pc_pl
    apply pc_ct_c
    intro x hx
    have x16 : x < 16 := by omega
    unfold pc_pb
    rw [← Bool.decide_and]
    apply decide_eq_decide.mpr
    rw [hwa x x16, hwa t t16, t1.2]
    constructor
    · rintro ⟨h1, h2, h3⟩
      refine ⟨h2, (pi_ord I hm' x16 t16 h2 t1.2).mpr ?_⟩
      have s1 := hbg x x16 (by rw [h2]; exact fun z => nomatch z)
      have s2 := hbg t t16 (by rw [t1.2]; exact fun z => nomatch z)
      omega
    · rintro ⟨h1, h2⟩
      have h3 := (pi_ord I hm' x16 t16 h1 t1.2).mp h2
      have s1 := hbg x x16 (by rw [h1]; exact fun z => nomatch z)
      have s2 := hbg t t16 (by rw [t1.2]; exact fun z => nomatch z)
      refine ⟨fun z => ?_, h1, by omega⟩
      rw [z] at h2; omega
  rw [e, hc, hab]
  rw [hab, List.pairwise_append, List.pairwise_cons] at hst
  have c1 : a.countP (fun x => decide (ky x < ky t)) = a.length := by
    rw [List.countP_eq_length]
    intro x hx
    exact decide_eq_true (hst.2.2 x hx t List.mem_cons_self)
  have c2 : b.countP (fun x => decide (ky x < ky t)) = 0 := by
    rw [List.countP_eq_zero]
    intro x hx z
    have h1 := of_decide_eq_true z
    have h2 := hst.2.1.1 x hx
    omega
  rw [List.countP_append, List.countP_cons, c1, c2]
  simp
theorem pi_pl0 (I : (pc_XI pc_0 pc_0 pc_0 pc_0 T M ba ef du ho oF sn fi nx pv hm ky lv)) (hwa : ∀ s, s < 16 → wa s = hm s) (hbg : ∀ s, s < 16 → hm s ≠ none → sn s = bg s + 1) {m t : Nat} (hm' : m < 16) (ht : t < 16) (htm : hm t = some m) : pc_pl T wa ef bg t = 0 ↔ fi m = some t := by
  obtain ⟨ls, H⟩ := I.1
  have tm : t ∈ ls m := (H.2.1 m t (by omega)).mpr ⟨by omega, htm⟩
  obtain ⟨a, b, hab⟩ := List.append_of_mem tm
  rw [pi_pl I hwa hbg H hm' hab, (H.1 m (by omega)).1, hab]
  have hn := (H.1 m (by omega)).2.2.1
  rw [hab] at hn
  cases a with
  | nil => exact ⟨fun _ => rfl, fun _ => rfl⟩
  | cons x r =>
    constructor
    · intro z; exact nomatch z
    · intro z
      exfalso
      have e : x = t := Option.some.inj z
      subst e
      exact (List.nodup_append.mp hn).2.2 x List.mem_cons_self x List.mem_cons_self rfl
end
end
section
/-! own rows: chains of owners -/
def pc_Ch (f : Nat → Option Nat) : Option Nat → List Nat → Prop
  | x, [] => x = none
  | x, t :: r => x = some t ∧ pc_Ch f (f t) r
def pc_AC (T : Nat) (f : Nat → Option Nat) : Prop := ∃ r : Nat → Nat, ∀ t o, t < T → f t = some o → o < T ∧ r o < r t
theorem pc_ch_ex {T : Nat} {f : Nat → Option Nat} (h : pc_AC T f) (x : Option Nat) (hx : ∀ t, x = some t → t < T) : ∃ l, pc_Ch f x l ∧ l.Nodup ∧ (∀ y ∈ l, y < T) ∧ l.length ≤ T := by
  obtain ⟨r, hr⟩ := h
  have main : ∀ n t, t < T → r t < n → ∃ l, pc_Ch f (some t) l ∧ l.Nodup ∧ ∀ y ∈ l, y < T ∧ r y ≤ r t := by
    intro n
    induction n with
    | zero => intro t _ h; omega
    | succ n ih =>
      intro t ht hn
      cases c : f t with
      | none =>
        refine ⟨[t], ⟨rfl, c⟩, List.nodup_cons.mpr ⟨fun z => (nomatch z), List.nodup_nil⟩, fun y hy => ?_⟩
        rw [List.mem_singleton.mp hy]
        exact ⟨ht, Nat.le_refl _⟩
      | some o =>
        obtain ⟨h1, h2⟩ := hr t o ht c
        obtain ⟨l, a1, a2, a3⟩ := ih o h1 (by omega)
        refine ⟨t :: l, ⟨rfl, c ▸ a1⟩, List.nodup_cons.mpr ⟨fun z => ?_, a2⟩, fun y hy => ?_⟩
        · have := (a3 t z).2; omega
        · rcases List.mem_cons.mp hy with e | e
          · rw [e]; exact ⟨ht, Nat.le_refl _⟩
          · have := a3 y e; omega
  have len : ∀ l : List Nat, l.Nodup → (∀ y ∈ l, y < T) → l.length ≤ T := fun l h1 h2 => by
    have := List.Nodup.length_le_of_subset (l₂ := List.range T) h1 (fun y hy => List.mem_range.mpr (h2 y hy))
    rw [List.length_range] at this
    exact this
  cases x with
  | none => exact ⟨[], rfl, List.nodup_nil, fun y hy => (nomatch hy), Nat.zero_le _⟩
  | some t =>
    obtain ⟨l, a1, a2, a3⟩ := main (r t + 1) t (hx t rfl) (by omega)
    exact ⟨l, a1, a2, fun y hy => (a3 y hy).1, len l a2 (fun y hy => (a3 y hy).1)⟩
theorem pc_ch_u {f : Nat → Option Nat} : ∀ {l l' : List Nat} {x : Option Nat}, pc_Ch f x l → pc_Ch f x l' → l = l'
  | [], [], _, _, _ => rfl
  | [], t :: r, x, h, h' => by
    have a : x = none := h
    have b : x = some t := h'.1
    rw [a] at b; exact nomatch b
  | t :: r, [], x, h, h' => by
    have a : x = none := h'
    have b : x = some t := h.1
    rw [a] at b; exact nomatch b
  | t :: r, t' :: r', x, h, h' => by
    have e : t = t' := Option.some.inj (h.1.symm.trans h'.1)
    subst e
    rw [pc_ch_u h.2 h'.2]
theorem pc_ch_next {f : Nat → Option Nat} : ∀ {l : List Nat} {x : Option Nat} {y z : Nat}, pc_Ch f x l → y ∈ l → f y = some z → z ∈ l
  | [], _, _, _, _, hy, _ => nomatch hy
  | t :: r, x, y, z, h, hy, hz => by
    rcases List.mem_cons.mp hy with e | e
    · rw [e] at hz
      cases r with
      | nil =>
        have : f t = none := h.2
        rw [this] at hz; exact nomatch hz
      | cons s q =>
        have : f t = some s := h.2.1
        rw [this] at hz
        rw [← Option.some.inj hz]
        exact List.mem_cons_of_mem _ List.mem_cons_self
    · exact List.mem_cons_of_mem _ (pc_ch_next h.2 e hz)
theorem pc_ch_prev {f : Nat → Option Nat} : ∀ {l : List Nat} {x : Option Nat} {y : Nat}, pc_Ch f x l → y ∈ l → x = some y ∨ ∃ z, z ∈ l ∧ f z = some y
  | [], _, _, _, hy => nomatch hy
  | t :: r, x, y, h, hy => by
    rcases List.mem_cons.mp hy with e | e
    · rw [e]; exact Or.inl h.1
    · rcases pc_ch_prev h.2 e with c | ⟨z, c, d⟩
      · exact Or.inr ⟨t, List.mem_cons_self, c⟩
      · exact Or.inr ⟨z, List.mem_cons_of_mem _ c, d⟩
theorem pc_ac1 {T : Nat} {f f' : Nat → Option Nat} (h : pc_AC T f) (h1 : ∀ s o, s < T → f' s = some o → f s = some o) : pc_AC T f' := by
  obtain ⟨r, hr⟩ := h
  exact ⟨r, fun s o hs ho => hr s o hs (h1 s o hs ho)⟩
theorem pc_ac2 {T t : Nat} {f f' : Nat → Option Nat} (h : pc_AC T f) (ht : t < T) (h1 : ∀ s o, s < T → f' s = some o → s ≠ t ∧ (f s = some o ∨ o = t)) : pc_AC T f' := by
  obtain ⟨r, hr⟩ := h
  refine ⟨fun x => if x = t then 0 else r x + 1, fun s o hs ho => ?_⟩
  obtain ⟨a, b⟩ := h1 s o hs ho
  show o < T ∧ (if o = t then 0 else r o + 1) < (if s = t then 0 else r s + 1)
  rw [if_neg a]
  by_cases e : o = t
  · rw [if_pos e, e]; exact ⟨ht, by omega⟩
  · rw [if_neg e]
    rcases b with b | b
    · have := hr s o hs b; omega
    · exact absurd b e
noncomputable def pc_01 (p : Prop) : Nat := @ite Nat p (Classical.propDecidable p) 1 0
theorem pc_01_t {p : Prop} (h : p) : pc_01 p = 1 := if_pos h
theorem pc_01_f {p : Prop} (h : ¬ p) : pc_01 p = 0 := if_neg h
theorem pc_ac3 {T t h : Nat} {f f' : Nat → Option Nat} {l : List Nat} (H : pc_AC T f) (ht : t < T) (hh : h < T) (hl : pc_Ch f (some h) l) (hnl : t ∉ l) (h1 : ∀ s o, s < T → f' s = some o → f s = some o ∨ (s = t ∧ o = h)) : pc_AC T f' := by
  have H0 := H
  obtain ⟨r, hr⟩ := H
  refine ⟨fun x => r x + pc_01 (∃ l', pc_Ch f (some x) l' ∧ t ∈ l') * (r h + 1), fun s o hs ho => ?_⟩
  show o < T ∧ r o + pc_01 (∃ l', pc_Ch f (some o) l' ∧ t ∈ l') * (r h + 1) < r s + pc_01 (∃ l', pc_Ch f (some s) l' ∧ t ∈ l') * (r h + 1)
  rcases h1 s o hs ho with e | ⟨e1, e2⟩
  · obtain ⟨a, b⟩ := hr s o hs e
    refine ⟨a, ?_⟩
    by_cases c : ∃ l', pc_Ch f (some o) l' ∧ t ∈ l'
    · obtain ⟨l', c1, c2⟩ := c
      rw [pc_01_t ⟨l', c1, c2⟩, pc_01_t ⟨s :: l', ⟨rfl, e ▸ c1⟩, List.mem_cons_of_mem _ c2⟩]
      omega
    · rw [pc_01_f c, Nat.zero_mul]
      omega
  · subst e1 e2
    have c : ¬ ∃ l', pc_Ch f (some o) l' ∧ s ∈ l' := by
      rintro ⟨l', c1, c2⟩
      rw [pc_ch_u hl c1] at hnl
      exact hnl c2
    obtain ⟨l', d, _, _, _⟩ := pc_ch_ex H0 (some s) (fun y hy => by have := Option.some.inj hy; omega)
    have d2 : s ∈ l' := by
      cases l' with
      | nil => exact nomatch d
      | cons y q =>
        rw [Option.some.inj d.1]
        exact List.mem_cons_self
    rw [pc_01_f c, pc_01_t ⟨l', d, d2⟩]
    omega
section
variable {T M g wb nw : Nat} {ba ef du sn dp ky : Nat → Nat} {ho oF fi nx pv hm lv : Nat → Option Nat} {lf bg fr : Nat → Nat} {wa : Nat → Option Nat} {ck : Nat}
theorem px_next {post : Int32 → Prop} {t : Nat} (ht : t < 16) (hw : ∀ m, hm t = some m → m < 16) (K : post (pc_o (pc_bk hm ho t))) : wpX_nextOnChain post (pc_X T M g wb nw ba ef du ho oF sn dp fi nx pv hm ky lv) (nI t) := by
  unfold wpX_nextOnChain
  rw [nI_clamp (by omega : t < 2 ^ 31)]
  refine ⟨vp_in_nI (by omega) (by decide), nm_r (e' := pc_o (hm t)) rfl ?_⟩
  unfold pc_bk at K
  cases c : hm t with
  | none => rw [c] at K; exact br_f pc_on' K
  | some m =>
    rw [c] at K
    have := hw m c
    have cm : (pc_o (some m)).toNatClampNeg = m := nI_clamp (by omega)
    refine br_t (pc_os' (by omega)) ⟨vp_in_nI this (by decide), ?_⟩
    rw [cm]
    exact K
theorem px_cc38 {post : Int32 → Prop} {t : Nat} {x : Option Nat} (ht : t < 16) (hx : ∀ y, x = some y → y < 16) (K1 : x = some t → post 1) (K0 : x ≠ some t → post 0) : wX_closesCycle_38 post (nI t) (pc_o x) 0 1 (nI T) (nI M) (nI g) (lN wb) (lN nw) (fun j => nI (ba j)) (fun j => nI (ef j)) (fun j => nI (du j)) (fun j => pc_o (ho j)) (fun j => pc_o (oF j)) (fun j => lN (sn j)) (fun j => nI (dp j)) (fun j => pc_o (fi j)) (fun j => pc_o (nx j)) (fun j => pc_o (pv j)) (fun j => pc_o (hm j)) (fun j => lN (ky j)) (pc_BU lv) (pc_OC lv) (fun j => pc_o (lv j)) (pc_ME lv) := by
  unfold wX_closesCycle_38
  by_cases c : x = some t
  · exact br_t (congrArg pc_o c) (K1 c)
  · exact br_f (fun z => c (pc_oinj (b := some t) (fun n hn => Nat.lt_trans (hx n hn) (by decide)) (fun n hn => by have := Option.some.inj hn; omega) z)) (K0 c)
theorem px_cc10 {post : Int32 → Prop} {t : Nat} (ht : t < 16) (hw : ∀ x m, x < 16 → hm x = some m → m < 16) :
    ∀ (l : List Nat) (x : Option Nat) (i n : Nat), pc_Ch (pc_bk hm ho) x l → (∀ y ∈ l, y < 16) → i + l.length ≤ 16 → l.length < n → (t ∈ l → post 1) → (t ∉ l → post 0) → wX_closesCycle_10 post (nI t) 0 1 (nI T) (nI M) (nI g) (lN wb) (lN nw) (fun j => nI (ba j)) (fun j => nI (ef j)) (fun j => nI (du j)) (fun j => pc_o (ho j)) (fun j => pc_o (oF j)) (fun j => lN (sn j)) (fun j => nI (dp j)) (fun j => pc_o (fi j)) (fun j => pc_o (nx j)) (fun j => pc_o (pv j)) (fun j => pc_o (hm j)) (fun j => lN (ky j)) (pc_BU lv) (pc_OC lv) (fun j => pc_o (lv j)) (pc_ME lv) n (pc_o x) (nI i)
  | [], x, i, n + 1, h, _, _, _, _, K0 => by
    have e : x = none := h
    subst e
    have hx : wX_closesCycle_38 post (nI t) (pc_o none) 0 1 (nI T) (nI M) (nI g) (lN wb) (lN nw) (fun j => nI (ba j)) (fun j => nI (ef j)) (fun j => nI (du j)) (fun j => pc_o (ho j)) (fun j => pc_o (oF j)) (fun j => lN (sn j)) (fun j => nI (dp j)) (fun j => pc_o (fi j)) (fun j => pc_o (nx j)) (fun j => pc_o (pv j)) (fun j => pc_o (hm j)) (fun j => lN (ky j)) (pc_BU lv) (pc_OC lv) (fun j => pc_o (lv j)) (pc_ME lv) := px_cc38 ht (fun y z => nomatch z) (fun z => nomatch z) (fun _ => K0 (fun z => nomatch z))
    exact br_c (fun _ => hx) (fun _ => br_t pc_on hx)
  | y :: r, x, i, n + 1, h, hb, hl, hn, K1, K0 => by
    have e : x = some y := h.1
    subst e
    have hy := hb y List.mem_cons_self
    rw [List.length_cons] at hl hn
    refine br_f (nI_ge (b := 16) (by omega) (by decide)) (br_f (pc_os (by omega)) ?_)
    by_cases c : y = t
    · subst c
      refine br_t rfl (px_cc38 ht (fun z hz => by have := Option.some.inj hz; omega) (fun _ => K1 List.mem_cons_self) (fun z => absurd rfl z))
    · refine br_f (fun z => c ((nI_eq (by omega) (by omega)).mp z)) ?_
      refine px_next hy (hw y · hy) (nm_r (nI_1 i) ?_)
      refine px_cc10 ht hw r _ (i + 1) n h.2 (fun z hz => hb z (List.mem_cons_of_mem _ hz)) (by omega) (by omega) (fun z => K1 (List.mem_cons_of_mem _ z)) (fun z => K0 (fun w => ?_))
      rcases List.mem_cons.mp w with q | q
      · exact c q.symm
      · exact z q
theorem px_closesCycle {post : Int32 → Prop} {t m : Nat} {l : List Nat} (ht : t < 16) (hm' : m < 16) (hw : ∀ x m, x < 16 → hm x = some m → m < 16) (hl : pc_Ch (pc_bk hm ho) (ho m) l) (hb : ∀ y ∈ l, y < 16) (hlen : l.length ≤ 16) (K1 : t ∈ l → post 1) (K0 : t ∉ l → post 0) : wpX_closesCycle post (pc_X T M g wb nw ba ef du ho oF sn dp fi nx pv hm ky lv) (nI t) (nI m) := by
  unfold wpX_closesCycle
  rw [nI_clamp (by omega : m < 2 ^ 31)]
  exact ⟨vp_in_nI hm' (by decide), nm_r (e' := pc_o (ho m)) rfl ⟨l.length + 1, px_cc10 ht hw l (ho m) 0 _ hl hb (by omega) (by omega) K1 K0⟩⟩
/-! the reference's lock loop -/
theorem py_lock97 {post : Int32 → SY → Prop} {t m : Nat} {p : Int32} (ht : t < 16) (hT : T ≤ 16) (hw : ∀ x m, x < 16 → wa x = some m → m < 16) :
    ∀ (l : List Nat) (x : Option Nat) (i n : Nat), pc_Ch (pc_bk wa ho) x l → (∀ y ∈ l, y < 16) → i + l.length ≤ T → l.length < n → (t ∈ l → post 106 (pc_Y T M g ck ba ef ho wa lf bg fr)) → (t ∉ l → wY_lock_134 post (nI t) (nI m) p (nI T) (nI M) (nI g) (lN ck) (fun j => nI (ba j)) (fun j => nI (ef j)) (fun j => pc_o (ho j)) (fun j => pc_o (wa j)) (fun j => nI (lf j)) (fun j => lN (bg j)) (fun j => nI (fr j))) →
    wY_lock_97 post (nI t) (nI m) p (nI T) (nI M) (nI g) (lN ck) (fun j => nI (ba j)) (fun j => nI (ef j)) (fun j => pc_o (ho j)) (fun j => pc_o (wa j)) (fun j => nI (lf j)) (fun j => lN (bg j)) (fun j => nI (fr j)) n (pc_o x) (nI i)
  | [], x, i, n + 1, h, _, _, _, _, K0 => by
    have e : x = none := h
    subst e
    have hx := K0 (fun z => nomatch z)
    exact br_c (fun _ => hx) (fun _ => br_t pc_on hx)
  | y :: r, x, i, n + 1, h, hb, hl, hn, K1, K0 => by
    have e : x = some y := h.1
    subst e
    have hy := hb y List.mem_cons_self
    rw [List.length_cons] at hl hn
    refine br_f (nI_ge (by omega) (by omega)) (br_f (pc_os (by omega)) ?_)
    by_cases c : y = t
    · subst c
      exact br_t rfl (K1 List.mem_cons_self)
    · refine br_f (fun z => c ((nI_eq (by omega) (by omega)).mp z)) ?_
      refine py_blocker hy (hw y · hy) (nm_r (nI_1 i) ?_)
      refine py_lock97 ht hT hw r _ (i + 1) n h.2 (fun z hz => hb z (List.mem_cons_of_mem _ hz)) (by omega) (by omega) (fun z => K1 (List.mem_cons_of_mem _ z)) (fun z => K0 (fun w => ?_))
      rcases List.mem_cons.mp w with q | q
      · exact c q.symm
      · exact z q
end
end
section
/-! own rows: the relation -/
def pc_R (k T M g wb nw : Nat) (ba ef du : Nat → Nat) (ho oF : Nat → Option Nat) (sn dp : Nat → Nat) (fi nx pv hm : Nat → Option Nat) (ky : Nat → Nat) (lv wa : Nat → Option Nat) (lf bg fr : Nat → Nat) : Prop :=
  (pc_XI pc_0 pc_0 pc_0 pc_0 T M ba ef du ho oF sn fi nx pv hm ky lv) ∧ (2 ≤ T ∧ 1 ≤ M ∧ g ≤ 31 ∧ wb ≤ k ∧ nw ≤ 60 * k) ∧
  (∀ t, t < 16 → wa t = hm t) ∧ (∀ t, t < 16 → sn t ≤ wb ∧ bg t ≤ wb ∧ lf t ≤ 60) ∧ (∀ t, t < 16 → hm t ≠ none → sn t = bg t + 1) ∧
  (∀ t, t < 16 → hm t ≠ none → (lf t = 0 → hm (32 + t) = none) ∧ (0 < lf t → hm (32 + t) = some 32 ∧ ky (32 + t) = nw + lf t)) ∧
  pc_AC T (pc_bk hm ho)
/-- the two states by shared numbers -/
def i_Rel (k : Nat) (u : SX) (v : SY) : Prop :=
  ∃ (T M g wb nw : Nat) (ba ef du : Nat → Nat) (ho oF : Nat → Option Nat) (sn dp : Nat → Nat) (fi nx pv hm : Nat → Option Nat) (ky : Nat → Nat) (lv wa : Nat → Option Nat) (lf bg fr : Nat → Nat), (pc_R k T M g wb nw ba ef du ho oF sn dp fi nx pv hm ky lv wa lf bg fr) ∧ u = (pc_X T M g wb nw ba ef du ho oF sn dp fi nx pv hm ky lv) ∧ v = (pc_Y T M g wb ba ef ho wa lf bg fr)
theorem pr_el {P : SX → SY → Prop} {k : Nat} {u : SX} {v : SY} (h : ∀ (T M g wb nw : Nat) (ba ef du : Nat → Nat) (ho oF : Nat → Option Nat) (sn dp : Nat → Nat) (fi nx pv hm : Nat → Option Nat) (ky : Nat → Nat) (lv wa : Nat → Option Nat) (lf bg fr : Nat → Nat), (pc_R k T M g wb nw ba ef du ho oF sn dp fi nx pv hm ky lv wa lf bg fr) → P (pc_X T M g wb nw ba ef du ho oF sn dp fi nx pv hm ky lv) (pc_Y T M g wb ba ef ho wa lf bg fr)) (I : i_Rel k u v) : P u v := by
  obtain ⟨T, M, g, wb, nw, ba, ef, du, ho, oF, sn, dp, fi, nx, pv, hm, ky, lv, wa, lf, bg, fr, H, e1, e2⟩ := I
  rw [e1, e2]
  exact h T M g wb nw ba ef du ho oF sn dp fi nx pv hm ky lv wa lf bg fr H
section
variable {T M g wb nw : Nat} {ba ef du sn dp ky : Nat → Nat} {ho oF fi nx pv hm lv : Nat → Option Nat} {ck : Nat} {lf bg fr : Nat → Nat} {wa : Nat → Option Nat} {k : Nat}
theorem pr_in (H : (pc_R k T M g wb nw ba ef du ho oF sn dp fi nx pv hm ky lv wa lf bg fr)) : i_Rel k (pc_X T M g wb nw ba ef du ho oF sn dp fi nx pv hm ky lv) (pc_Y T M g wb ba ef ho wa lf bg fr) := ⟨T, M, g, wb, nw, ba, ef, du, ho, oF, sn, dp, fi, nx, pv, hm, ky, lv, wa, lf, bg, fr, H, rfl, rfl⟩
theorem pr_up (H : (pc_R k T M g wb nw ba ef du ho oF sn dp fi nx pv hm ky lv wa lf bg fr)) : (pc_R (k + 4) T M g wb nw ba ef du ho oF sn dp fi nx pv hm ky lv wa lf bg fr) := by
  obtain ⟨h1, ⟨h2, h3, h4, h5, h6⟩, h7⟩ := H
  exact ⟨h1, ⟨h2, h3, h4, by omega, by omega⟩, h7⟩
theorem pr_T (H : (pc_R k T M g wb nw ba ef du ho oF sn dp fi nx pv hm ky lv wa lf bg fr)) : T ≤ 16 := H.1.2.1.1
theorem pr_M (H : (pc_R k T M g wb nw ba ef du ho oF sn dp fi nx pv hm ky lv wa lf bg fr)) : M ≤ 16 := H.1.2.1.2.1
theorem pr_hx (H : (pc_R k T M g wb nw ba ef du ho oF sn dp fi nx pv hm ky lv wa lf bg fr)) : ∀ x m, x < 16 → hm x = some m → m < 16 := fun x m hx h => (pi_m16 H.1 hx h).1
theorem pr_hw (H : (pc_R k T M g wb nw ba ef du ho oF sn dp fi nx pv hm ky lv wa lf bg fr)) : ∀ x m, x < 16 → wa x = some m → m < 16 := fun x m hx h => (pi_m16 H.1 hx ((H.2.2.1 x hx).symm.trans h)).1
theorem pr_he (H : (pc_R k T M g wb nw ba ef du ho oF sn dp fi nx pv hm ky lv wa lf bg fr)) : ∀ x, x < 16 → ef x < 32 := fun x hx => (H.1.2.1.2.2.1 x hx).2.1
theorem pr_hbn (H : (pc_R k T M g wb nw ba ef du ho oF sn dp fi nx pv hm ky lv wa lf bg fr)) (hk : k ≤ 2051) : ∀ x, x < 16 → bg x < 2 ^ 58 := fun x hx => by
  have a := (H.2.2.2.1 x hx).2.1
  have b := H.2.1.2.2.2.1
  omega
theorem pr_ba (H : (pc_R k T M g wb nw ba ef du ho oF sn dp fi nx pv hm ky lv wa lf bg fr)) : ∀ x, x < 16 → ba x < 32 := fun x hx => (H.1.2.1.2.2.1 x hx).1
theorem pr_ho (H : (pc_R k T M g wb nw ba ef du ho oF sn dp fi nx pv hm ky lv wa lf bg fr)) : ∀ m o, m < 16 → ho m = some o → o < 16 := fun m o hm' h => Nat.lt_of_lt_of_le (H.1.2.1.2.2.2.1 m o hm' h) (pr_T H)
theorem pr_bk (H : (pc_R k T M g wb nw ba ef du ho oF sn dp fi nx pv hm ky lv wa lf bg fr)) {t : Nat} (ht : t < 16) : pc_bk wa ho t = pc_bk hm ho t := pc_bk_c (H.2.2.1 t ht)
end
theorem i_up {k : Nat} {u : SX} {v : SY} (h : i_Rel k u v) : i_Rel (k + 4) u v := by
  refine pr_el (P := fun u v => i_Rel (k + 4) u v) ?_ h
  intro T M g wb nw ba ef du ho oF sn dp fi nx pv hm ky lv wa lf bg fr H
  exact pr_in (pr_up H)
end
section
/-! own rows: the constructors -/
def pc_fl (i : Nat) (v a : Nat → Int32) : Nat → Int32 := fun j => if j < i then v j else a j
theorem pc_fl_u {i : Nat} {v a : Nat → Int32} {x : Int32} (hi : i < 2 ^ 31) (hx : x = v i) : upd (pc_fl i v a) (nI i).toNatClampNeg x = pc_fl (i + 1) v a := by
  rw [nI_clamp hi]
  funext j
  by_cases e : j = i
  · subst e
    rw [pk_us, hx]
    exact (if_pos (by omega)).symm
  · rw [pk_un e]
    unfold pc_fl
    by_cases c : j < i
    · rw [if_pos c, if_pos (by omega)]
    · rw [if_neg c, if_neg (by omega)]
def pc_lf2 (i : Nat) (a : Nat → Int32) : Nat → Int32 := fun j => if j < i ∨ (16 ≤ j ∧ j < 16 + i) then -1 else a j
theorem pc_lf2_u {i : Nat} {a : Nat → Int32} (hi : i < 16) : upd (upd (pc_lf2 i a) (nI i).toNatClampNeg (-1)) ((16 : Int32) + nI i).toNatClampNeg (-1) = pc_lf2 (i + 1) a := by
  rw [pc_16, nI_clamp (by omega : i < 2 ^ 31), nI_clamp (by omega : 16 + i < 2 ^ 31)]
  funext j
  by_cases e : j = 16 + i
  · subst e
    rw [pk_us]
    exact (if_pos (Or.inr ⟨by omega, by omega⟩)).symm
  · rw [pk_un e]
    by_cases f : j = i
    · subst f
      rw [pk_us]
      exact (if_pos (Or.inl (by omega))).symm
    · rw [pk_un f]
      unfold pc_lf2
      by_cases c : j < i ∨ (16 ≤ j ∧ j < 16 + i)
      · rw [if_pos c, if_pos (by omega)]
      · rw [if_neg c, if_neg (by omega)]
theorem pc_lf2_0 {a : Nat → Int32} : pc_lf2 0 a = a := by
  funext j
  exact if_neg (by omega)
section
variable {f_staleSet f_readySet f_taskCount f_mutexCount f_margin : Int32} {f_waitsBegun f_now : Int64} {a_base a_eff a_due a_holder a_offered a_depth a_first a_next a_prev a_home a_bucket a_occupied a_levelOf a_members : Nat → Int32} {a_since a_key : Nat → Int64}
theorem px_cl23 {post : SX → Prop} (K : post (f_staleSet, f_readySet, f_taskCount, f_mutexCount, f_margin, f_waitsBegun, f_now, a_base, a_eff, a_due, a_holder, a_offered, a_since, a_depth, a_first, (pc_fl 48 (fun _ => -1) a_next), (pc_fl 48 (fun _ => -1) a_prev), (pc_fl 48 (fun _ => -1) a_home), a_key, a_bucket, a_occupied, a_levelOf, a_members)) :
    ∀ (d i n : Nat), i + d = 48 → d < n → wX_clearLists_23 post f_staleSet f_readySet f_taskCount f_mutexCount f_margin f_waitsBegun f_now n (nI i) a_base a_eff a_due a_holder a_offered a_since a_depth a_first (pc_fl i (fun _ => -1) a_next) (pc_fl i (fun _ => -1) a_prev) (pc_fl i (fun _ => -1) a_home) a_key a_bucket a_occupied a_levelOf a_members
  | 0, i, n + 1, h, _ => by
    have e : i = 48 := by omega
    subst e
    exact br_t (by decide) K
  | d + 1, i, n + 1, h, hn => by
    have ii : vp_in (nI i) 48 := vp_in_nI (by omega) (by decide)
    exact br_f (nI_ge (b := 48) (by omega) (by decide)) ⟨ii, nm_r (pc_fl_u (by omega) rfl) ⟨ii, nm_r (pc_fl_u (by omega) rfl) ⟨ii, nm_r (pc_fl_u (by omega) rfl) (nm_r (nI_1 i) (px_cl23 K d (i + 1) n (by omega) (by omega)))⟩⟩⟩
theorem px_cl2 {post : SX → Prop} (K : ∃ n, wX_clearLists_23 post f_staleSet f_readySet f_taskCount f_mutexCount f_margin f_waitsBegun f_now n 0 a_base a_eff a_due a_holder a_offered a_since a_depth (pc_fl 33 (fun _ => -1) a_first) a_next a_prev a_home a_key a_bucket a_occupied a_levelOf a_members) :
    ∀ (d i n : Nat), i + d = 33 → d < n → wX_clearLists_2 post f_staleSet f_readySet f_taskCount f_mutexCount f_margin f_waitsBegun f_now n (nI i) a_base a_eff a_due a_holder a_offered a_since a_depth (pc_fl i (fun _ => -1) a_first) a_next a_prev a_home a_key a_bucket a_occupied a_levelOf a_members
  | 0, i, n + 1, h, _ => by
    have e : i = 33 := by omega
    subst e
    exact br_t (by decide) K
  | d + 1, i, n + 1, h, hn => by
    have ii : vp_in (nI i) 33 := vp_in_nI (by omega) (by decide)
    exact br_f (nI_ge (b := 33) (by omega) (by decide)) ⟨ii, nm_r (pc_fl_u (by omega) rfl) (nm_r (nI_1 i) (px_cl2 K d (i + 1) n (by omega) (by omega)))⟩
theorem pc_fl_0 {v a : Nat → Int32} : pc_fl 0 v a = a := by
  funext j
  exact if_neg (by omega)
theorem px_clearLists {post : SX → Prop} (K : post (f_staleSet, f_readySet, f_taskCount, f_mutexCount, f_margin, f_waitsBegun, f_now, a_base, a_eff, a_due, a_holder, a_offered, a_since, a_depth, (pc_fl 33 (fun _ => -1) a_first), (pc_fl 48 (fun _ => -1) a_next), (pc_fl 48 (fun _ => -1) a_prev), (pc_fl 48 (fun _ => -1) a_home), a_key, a_bucket, a_occupied, a_levelOf, a_members)) : wpX_clearLists post (f_staleSet, f_readySet, f_taskCount, f_mutexCount, f_margin, f_waitsBegun, f_now, a_base, a_eff, a_due, a_holder, a_offered, a_since, a_depth, a_first, a_next, a_prev, a_home, a_key, a_bucket, a_occupied, a_levelOf, a_members) := by
  have h := px_cl23 K 48 0 49 rfl (by decide)
  rw [pc_fl_0, pc_fl_0, pc_fl_0] at h
  have h2 := px_cl2 ⟨49, h⟩ 33 0 34 rfl (by decide)
  rw [pc_fl_0] at h2
  exact ⟨34, h2⟩
theorem px_i193 {post : SX → Prop} (K : ∃ n, wX_init_271 post n 0 f_staleSet f_readySet f_taskCount f_mutexCount f_margin f_waitsBegun f_now (pc_fl 16 nI a_base) (pc_fl 16 nI a_eff) (pc_fl 16 nI a_due) (pc_fl 16 (fun _ => -1) a_holder) (pc_fl 16 (fun _ => -1) a_offered) a_since a_depth a_first a_next a_prev a_home a_key a_bucket a_occupied (pc_lf2 16 a_levelOf) a_members) :
    ∀ (d i n : Nat), i + d = 16 → d < n → wX_init_193 post f_staleSet f_readySet f_taskCount f_mutexCount f_margin f_waitsBegun f_now n (nI i) (pc_fl i nI a_base) (pc_fl i nI a_eff) (pc_fl i nI a_due) (pc_fl i (fun _ => -1) a_holder) (pc_fl i (fun _ => -1) a_offered) a_since a_depth a_first a_next a_prev a_home a_key a_bucket a_occupied (pc_lf2 i a_levelOf) a_members
  | 0, i, n + 1, h, _ => by
    have e : i = 16 := by omega
    subst e
    exact br_t (by decide) K
  | d + 1, i, n + 1, h, hn => by
    have ii : vp_in (nI i) 16 := vp_in_nI (by omega) (by decide)
    have i3 : vp_in (nI i) 32 := vp_in_nI (by omega) (by decide)
    have i4 : vp_in ((16 : Int32) + nI i) 32 := by rw [pc_16]; exact vp_in_nI (by omega) (by decide)
    have hi : i < 2 ^ 31 := by omega
    exact br_f (nI_ge (b := 16) (by omega) (by decide)) ⟨ii, nm_r (pc_fl_u hi rfl) ⟨ii, nm_r (pc_fl_u hi rfl) ⟨ii, nm_r (pc_fl_u hi rfl) ⟨ii, nm_r (pc_fl_u hi rfl) ⟨ii, nm_r (pc_fl_u hi rfl) ⟨i3, nm_e ⟨i4, nm_r (pc_lf2_u (by omega)) (nm_r (nI_1 i) (px_i193 K d (i + 1) n (by omega) (by omega)))⟩⟩⟩⟩⟩⟩⟩
end
section
variable {T M g wb nw : Nat} {ba ef du sn dp ky : Nat → Nat} {ho oF fi nx pv hm lv : Nat → Option Nat}
theorem px_i271 {post : SX → Prop} (K : ∀ lv', (pc_XI pc_0 pc_0 pc_0 pc_0 T M ba ef du ho oF sn fi nx pv hm ky lv') → post (pc_X T M g wb nw ba ef du ho oF sn dp fi nx pv hm ky lv')) :
    ∀ (d i n : Nat) (lv : Nat → Option Nat), i + d = T → d < n → (pc_XI pc_0 (fun x => i ≤ x) pc_0 pc_0 T M ba ef du ho oF sn fi nx pv hm ky lv) → wX_init_271 post n (nI i) 0 1 (nI T) (nI M) (nI g) (lN wb) (lN nw) (fun j => nI (ba j)) (fun j => nI (ef j)) (fun j => nI (du j)) (fun j => pc_o (ho j)) (fun j => pc_o (oF j)) (fun j => lN (sn j)) (fun j => nI (dp j)) (fun j => pc_o (fi j)) (fun j => pc_o (nx j)) (fun j => pc_o (pv j)) (fun j => pc_o (hm j)) (fun j => lN (ky j)) (pc_BU lv) (pc_OC lv) (fun j => pc_o (lv j)) (pc_ME lv)
  | 0, i, n + 1, lv, h, _, I => by
    have hT := I.2.1.1
    refine br_t (nI_le (by omega) (by omega)) (K _ ?_)
    exact pi_mono (fun _ _ z => z) (fun t ht z => by omega) (fun _ z => z) (fun _ z => z) I
  | d + 1, i, n + 1, lv, h, hn, I => by
    have hT := I.2.1.1
    refine br_f (nI_ge (by omega) (by omega)) (px_rdy I (by omega) (fun lv' J => nm_r (nI_1 i) ?_))
    exact px_i271 K d (i + 1) n lv' (by omega) (by omega) (pi_mono (fun _ _ z => z) (fun t ht z => by have := z.1; have := z.2; omega) (fun _ z => z) (fun _ z => z) J)
end
/-! the state before the ready levels -/
def pc_n (n : Nat) : Nat → Option Nat := fun j => if j < n then none else some 0
def pc_id : Nat → Nat := fun j => if j < 16 then j else 0
theorem pc_n_a (n : Nat) : pc_fl n (fun _ => -1) (fun _ => 0) = fun j => pc_o (pc_n n j) := by
  funext j
  unfold pc_fl pc_n
  by_cases c : j < n
  · rw [if_pos c, if_pos c]; rfl
  · rw [if_neg c, if_neg c]; rfl
theorem pc_id_a : pc_fl 16 nI (fun _ => 0) = fun j => nI (pc_id j) := by
  funext j
  unfold pc_fl pc_id
  by_cases c : j < 16
  · rw [if_pos c, if_pos c]
  · rw [if_neg c, if_neg c]; rfl
theorem pc_lf_a : pc_lf2 16 (fun _ => 0) = fun j => pc_o (pc_n 32 j) := by
  funext j
  unfold pc_lf2 pc_n
  by_cases c : j < 32
  · rw [if_pos c, if_pos (by omega)]; rfl
  · rw [if_neg c, if_neg (by omega)]; rfl
theorem pc_n_lt {n j : Nat} (h : j < n) : pc_n n j = none := if_pos h
theorem pc_BU_0 : (fun _ => (0 : Int32)) = pc_BU (pc_n 32) := by
  funext j
  unfold pc_BU
  by_cases c : j < 64
  · rw [if_pos c]
    refine ((pc_bs_z (by decide)).mpr (fun i hi => ?_)).symm
    rw [pc_n_lt (by omega)]
    exact decide_eq_false (fun z => nomatch z)
  · rw [if_neg c]
theorem pc_OC_0 : (fun _ => (0 : Int32)) = pc_OC (pc_n 32) := by
  funext j
  unfold pc_OC
  by_cases c : j < 2
  · rw [if_pos c]
    refine ((pc_bs_z (by decide)).mpr (fun i hi => ?_)).symm
    rw [pc_an_f]
    intro t ht
    rw [pc_n_lt (by omega)]
    exact fun z => nomatch z
  · rw [if_neg c]
theorem pc_ME_0 : (fun _ => (0 : Int32)) = pc_ME (pc_n 32) := by
  funext j
  unfold pc_ME
  by_cases c : j < 2
  · rw [if_pos c, pc_ct_0 (fun i hi => by rw [pc_n_lt (by omega)]; rfl)]
    rfl
  · rw [if_neg c]
theorem pi_0 {T M : Nat} (hT : T ≤ 16) (hM : M ≤ 16) : pc_XI pc_0 (fun x => 0 ≤ x) pc_0 pc_0 T M pc_id pc_id pc_id (pc_n 16) (pc_n 16) (fun _ => 0) (pc_n 33) (pc_n 48) (pc_n 48) (pc_n 48) (fun _ => 0) (pc_n 32) := by
  have hm0 : ∀ n, n < 48 → ∀ L, pc_n 48 n ≠ some L := fun n hn L z => by rw [pc_n_lt hn] at z; exact nomatch z
  refine ⟨⟨fun _ => [], ?_, ?_, ?_⟩, ⟨hT, hM, ?_, ?_, ?_⟩, ⟨?_, ?_, ?_, ?_⟩, ⟨?_, ?_⟩, ?_, ?_, ?_, ?_⟩
  · intro L hL
    exact ⟨pc_n_lt hL, trivial, List.nodup_nil, List.Pairwise.nil⟩
  · intro L n hL
    exact ⟨fun z => (nomatch z), fun z => absurd z.2 (hm0 n z.1 L)⟩
  · intro n L hn h
    exact absurd h (hm0 n hn L)
  · intro t ht
    have e : pc_id t = t := if_pos ht
    rw [e]
    exact ⟨by omega, by omega, by omega, Nat.two_pow_pos 58⟩
  · intro m o h z
    rw [pc_n_lt h] at z; exact nomatch z
  · intro m o h z
    rw [pc_n_lt h] at z; exact nomatch z
  · intro t m h z
    exact absurd z (hm0 t (by omega) m)
  · intro m l h z
    exact absurd z (hm0 _ (by omega) l)
  · intro s t m h h' z
    exact absurd z (hm0 s (by omega) m)
  · intro t h z
    rw [pc_n_lt (by omega)] at z
    exact absurd rfl z
  · intro j l h z
    rw [pc_n_lt h] at z; exact nomatch z
  · intro t _ h
    exact ⟨pc_n_lt (by omega), pc_n_lt (by omega)⟩
  · intro m h _
    exact ⟨fun o x z => by rw [pc_n_lt h] at z; exact (nomatch z), fun _ => pc_n_lt (by omega), fun _ => pc_n_lt (by omega)⟩
  · intro m h _
    exact ⟨fun _ => by rw [pc_n_lt h, pc_n_lt (by omega)], fun _ => pc_n_lt h⟩
  · intro t h _
    refine ⟨?_, ?_⟩
    · unfold pc_dd; rw [pc_n_lt (by omega)]
    · rw [pc_n_lt (by omega)]
      exact (if_pos rfl).symm
  · intro t h z
    exact absurd (Nat.zero_le t) z
theorem px_init {post : SX → Prop} {p0 p1 p2 : Int32}
    (K : ∀ lv, pc_XI pc_0 pc_0 pc_0 pc_0 (pc_cl p0 2 16) (pc_cl p1 1 16) pc_id pc_id pc_id (pc_n 16) (pc_n 16) (fun _ => 0) (pc_n 33) (pc_n 48) (pc_n 48) (pc_n 48) (fun _ => 0) lv →
      post (pc_X (pc_cl p0 2 16) (pc_cl p1 1 16) (pc_cl p2 0 31) 0 0 pc_id pc_id pc_id (pc_n 16) (pc_n 16) (fun _ => 0) (fun _ => 0) (pc_n 33) (pc_n 48) (pc_n 48) (pc_n 48) (fun _ => 0) lv)) : wpX_init post p0 p1 p2 := by
  have b0 := pc_cl_b (v := p0) (lo := 2) (hi := 16) (by decide) (by decide)
  have b1 := pc_cl_b (v := p1) (lo := 1) (hi := 16) (by decide) (by decide)
  unfold wpX_init
  refine px_clamp (lo := 2) (hi := 16) (by decide) (by decide) ?_
  refine px_clamp (lo := 1) (hi := 16) (by decide) (by decide) ?_
  refine px_clamp (lo := 0) (hi := 31) (by decide) (by decide) ?_
  refine px_clearLists ?_
  refine ⟨17, ?_⟩
  have h := px_i271 (T := pc_cl p0 2 16) (M := pc_cl p1 1 16) (g := pc_cl p2 0 31) (wb := 0) (nw := 0) (dp := fun _ => 0) K (pc_cl p0 2 16) 0 17 (pc_n 32) (by omega) (by omega) (pi_0 (by omega) (by omega))
  rw [← pc_BU_0, ← pc_OC_0, ← pc_ME_0, ← pc_lf_a, ← pc_id_a, ← pc_n_a, ← pc_n_a, ← pc_n_a] at h
  have h2 := px_i193 ⟨17, h⟩ 16 0 17 rfl (by decide)
  rw [pc_fl_0, pc_fl_0, pc_lf2_0] at h2
  exact h2
/-! the reference's constructor -/
section
variable {f_taskCount f_mutexCount f_steal : Int32} {f_clock : Int64} {a_base a_eff a_holder a_wants a_left a_fresh : Nat → Int32} {a_began : Nat → Int64}
theorem py_i142 {post : SY → Prop} (K : post (f_taskCount, f_mutexCount, f_steal, f_clock, pc_fl 16 nI a_base, pc_fl 16 nI a_eff, pc_fl 16 (fun _ => -1) a_holder, pc_fl 16 (fun _ => -1) a_wants, a_left, a_began, a_fresh)) :
    ∀ (d i n : Nat), i + d = 16 → d < n → wY_init_142 post f_taskCount f_mutexCount f_steal f_clock n (nI i) (pc_fl i nI a_base) (pc_fl i nI a_eff) (pc_fl i (fun _ => -1) a_holder) (pc_fl i (fun _ => -1) a_wants) a_left a_began a_fresh
  | 0, i, n + 1, h, _ => by
    have e : i = 16 := by omega
    subst e
    exact br_t (by decide) K
  | d + 1, i, n + 1, h, hn => by
    have ii : vp_in (nI i) 16 := vp_in_nI (by omega) (by decide)
    have hi : i < 2 ^ 31 := by omega
    exact br_f (nI_ge (b := 16) (by omega) (by decide)) ⟨ii, nm_r (pc_fl_u hi rfl) ⟨ii, nm_r (pc_fl_u hi rfl) ⟨ii, nm_r (pc_fl_u hi rfl) ⟨ii, nm_r (pc_fl_u hi rfl) (nm_r (nI_1 i) (py_i142 K d (i + 1) n (by omega) (by omega)))⟩⟩⟩⟩
end
theorem py_init {post : SY → Prop} {p0 p1 p2 : Int32} (K : post (pc_Y (pc_cl p0 2 16) (pc_cl p1 1 16) (pc_cl p2 0 31) 0 pc_id pc_id (pc_n 16) (pc_n 16) (fun _ => 0) (fun _ => 0) (fun _ => 0))) : wpY_init post p0 p1 p2 := by
  have K2 : post (nI (pc_cl p0 2 16), nI (pc_cl p1 1 16), nI (pc_cl p2 0 31), 0, pc_fl 16 nI (fun _ => 0), pc_fl 16 nI (fun _ => 0), pc_fl 16 (fun _ => -1) (fun _ => 0), pc_fl 16 (fun _ => -1) (fun _ => 0), fun _ => 0, fun _ => 0, fun _ => 0) := by
    rw [pc_id_a, pc_n_a]
    exact K
  have h := py_i142 K2 16 0 17 rfl (by decide)
  rw [pc_fl_0, pc_fl_0] at h
  unfold wpY_init
  refine pc_cl3 (P := fun c => wY_init_87 post p1 p2 c 0 0 0 0 (fun _ => 0) (fun _ => 0) (fun _ => 0) (fun _ => 0) (fun _ => 0) (fun _ => 0) (fun _ => 0)) (lo := 2) (hi := 16) (by decide) (by decide) ?_
  unfold wY_init_87
  refine pc_cl3 (P := fun c => wY_init_112 post p2 c (nI (pc_cl p0 2 16)) 0 0 0 (fun _ => 0) (fun _ => 0) (fun _ => 0) (fun _ => 0) (fun _ => 0) (fun _ => 0) (fun _ => 0)) (lo := 1) (hi := 16) (by decide) (by decide) ?_
  unfold wY_init_112
  refine pc_cl3 (P := fun c => ∃ n142 : Nat, wY_init_142 post (nI (pc_cl p0 2 16)) (nI (pc_cl p1 1 16)) c 0 n142 0 (fun _ => 0) (fun _ => 0) (fun _ => 0) (fun _ => 0) (fun _ => 0) (fun _ => 0) (fun _ => 0)) (lo := 0) (hi := 31) (by decide) (by decide) ?_
  exact ⟨17, h⟩
end
section
/-! own rows: constructor, pending, priority, owner, setBase -/
theorem i_vc0 (k0 : Int32) (k1 : Int32) (k2 : Int32) : wpX_init (fun u => wpY_init (fun v => i_Rel 3 u v) k0 k1 k2) k0 k1 k2 := by
  have b0 := pc_cl_b (v := k0) (lo := 2) (hi := 16) (by decide) (by decide)
  have b1 := pc_cl_b (v := k1) (lo := 1) (hi := 16) (by decide) (by decide)
  have b2 := pc_cl_b (v := k2) (lo := 0) (hi := 31) (by decide) (by decide)
  refine px_init (fun lv J => ?_)
  refine py_init ?_
  refine pr_in (wb := 0) ⟨J, ⟨b0.1, b1.1, b2.2, by omega, by omega⟩, ?_, ?_, ?_, ?_, ?_⟩
  · intro t ht
    rw [pc_n_lt ht, pc_n_lt (by omega)]
  · intro t ht
    exact ⟨Nat.le_refl _, Nat.le_refl _, Nat.zero_le _⟩
  · intro t ht z
    rw [pc_n_lt (by omega)] at z
    exact absurd rfl z
  · intro t ht z
    rw [pc_n_lt (by omega)] at z
    exact absurd rfl z
  · refine ⟨fun _ => 0, fun t o ht h => ?_⟩
    obtain ⟨m, h1, _⟩ := pc_bk_s h
    rw [pc_n_lt (by omega)] at h1
    exact nomatch h1
theorem pc_ct_ext {p : Nat → Bool} {a : Nat} : ∀ {n : Nat}, a ≤ n → (∀ i, a ≤ i → i < n → p i = false) → pc_ct p n = pc_ct p a
  | 0, h, _ => by
    have : a = 0 := by omega
    rw [this]
  | n + 1, h, hz => by
    by_cases e : a = n + 1
    · rw [e]
    · show pc_ct p n + (if p n = true then 1 else 0) = _
      rw [hz n (by omega) (by omega), pc_ct_ext (n := n) (by omega) (fun i h1 h2 => hz i h1 (by omega))]
      rfl
section
variable {T M g wb nw : Nat} {ba ef du sn dp ky : Nat → Nat} {ho oF fi nx pv hm lv : Nat → Option Nat} {ck : Nat} {lf bg fr : Nat → Nat} {wa : Nat → Option Nat} {k : Nat}
theorem pi_lv0 (I : (pc_XI pc_0 pc_0 pc_0 pc_0 T M ba ef du ho oF sn fi nx pv hm ky lv)) {t : Nat} (ht : t < T) : lv t = if du t = ef t then none else some (du t) := (I.2.2.2.2.2.2.1 t ht id).2
theorem pi_ctS (I : (pc_XI pc_0 pc_0 pc_0 pc_0 T M ba ef du ho oF sn fi nx pv hm ky lv)) : pc_ME lv 0 = nI (pc_ct (fun t => decide (du t ≠ ef t)) T) := by
  have hT := I.2.1.1
  show (if 0 < 2 then nI (pc_ct (fun t => (lv (16 * 0 + t)).isSome) 16) else 0) = _
  rw [if_pos (by decide)]
  apply congrArg nI
  have e : ∀ t, 16 * 0 + t = t := fun t => by omega
  rw [pc_ct_ext (a := T) hT]
  · apply pc_ct_c
    intro t ht
    show (lv (16 * 0 + t)).isSome = _
    rw [e, pi_lv0 I ht]
    by_cases c : du t = ef t
    · rw [if_pos c, decide_eq_false (fun z => z c)]; rfl
    · rw [if_neg c, decide_eq_true c]; rfl
  · intro t h1 h2
    show (lv (16 * 0 + t)).isSome = _
    rw [e, (I.2.2.2.1.2 t h1 h2).1]
    rfl
theorem py_pend4 {post : Int32 → Prop} (hT : T ≤ 16) (hw : ∀ x m, x < 16 → wa x = some m → m < 16) (hho : ∀ m o, m < 16 → ho m = some o → o < 16) (he : ∀ x, x < 16 → ef x < 32) (hb : ∀ x, x < 16 → ba x < 32)
    (K : post (nI (pc_ct (fun t => decide (pc_yd T ba ef wa ho t ≠ ef t)) T))) :
    ∀ (d i n : Nat), i + d = T → d < n → wY_pending_4 post (nI T) (nI M) (nI g) (lN ck) (fun j => nI (ba j)) (fun j => nI (ef j)) (fun j => pc_o (ho j)) (fun j => pc_o (wa j)) (fun j => nI (lf j)) (fun j => lN (bg j)) (fun j => nI (fr j)) n (nI (pc_ct (fun t => decide (pc_yd T ba ef wa ho t ≠ ef t)) i)) (nI i)
  | 0, i, n + 1, h, _ => by
    have e : i = T := by omega
    subst e
    exact br_t (nI_le (Nat.le_refl _) (by omega)) K
  | d + 1, i, n + 1, h, hn => by
    have ih := py_pend4 hT hw hho he hb K d (i + 1) n (by omega) (by omega)
    have ei : pc_ct (fun t => decide (pc_yd T ba ef wa ho t ≠ ef t)) (i + 1) = pc_ct (fun t => decide (pc_yd T ba ef wa ho t ≠ ef t)) i + (if decide (pc_yd T ba ef wa ho i ≠ ef i) = true then 1 else 0) := rfl
    refine br_f (nI_ge (by omega) (by omega)) (py_stale hT (by omega) hw hho he (hb i (by omega)) (fun z => ?_) (fun z => ?_))
    · rw [ei, decide_eq_false (fun w => w z)] at ih
      exact br_t rfl (nm_r (nI_1 i) ih)
    · rw [ei, decide_eq_true z] at ih
      exact br_f (by decide) (nm_r (nI_1 _) (nm_r (nI_1 i) ih))
theorem pi_base (I : (pc_XI pc_0 pc_0 pc_0 pc_0 T M ba ef du ho oF sn fi nx pv hm ky lv)) {t p : Nat} (hp : p < 32) : (pc_XI (fun y => y = t) pc_0 pc_0 pc_0 T M (pc_u ba t p) ef du ho oF sn fi nx pv hm ky lv) := by
  obtain ⟨i1, ⟨r1, r2, r3, r4, r5⟩, i3, i4, i5, i6, i7, i8⟩ := I
  refine ⟨i1, ⟨r1, r2, ?_, r4, r5⟩, i3, i4, i5, i6, ?_, i8⟩
  · intro x hx
    have h := r3 x hx
    by_cases e : x = t
    · subst e; rw [pc_us]; exact ⟨hp, h.2⟩
    · rw [pc_un e]; exact h
  · intro s hs e
    have h := i7 s hs id
    unfold pc_CD at h ⊢
    have : pc_dd (pc_u ba t p) fi ky s = pc_dd ba fi ky s := by
      unfold pc_dd
      rw [pc_un e]
    rw [this]
    exact h
/-- the relation again, where waits and owners stay -/
theorem pr_keep (H : (pc_R k T M g wb nw ba ef du ho oF sn dp fi nx pv hm ky lv wa lf bg fr)) {ba' ef' du' ky' : Nat → Nat} {oF' fi' nx' pv' hm' lv' : Nat → Option Nat} (J : (pc_XI pc_0 pc_0 pc_0 pc_0 T M ba' ef' du' ho oF' sn fi' nx' pv' hm' ky' lv')) (h1 : ∀ n, n < 16 ∨ 32 ≤ n → hm' n = hm n) (h2 : ∀ n, 32 ≤ n → ky' n = ky n) :
    (pc_R (k + 4) T M g wb nw ba' ef' du' ho oF' sn dp fi' nx' pv' hm' ky' lv' wa lf bg fr) := by
  obtain ⟨i0, ⟨i1, i2, i3, i4, i5⟩, i6, i7, i8, i9, i10⟩ := H
  refine ⟨J, ⟨i1, i2, i3, by omega, by omega⟩, ?_, i7, ?_, ?_, ?_⟩
  · intro t ht
    rw [i6 t ht, h1 t (Or.inl ht)]
  · intro t ht z
    rw [h1 t (Or.inl ht)] at z
    exact i8 t ht z
  · intro t ht z
    rw [h1 t (Or.inl ht)] at z
    rw [h1 _ (Or.inr (by omega)), h2 _ (by omega)]
    exact i9 t ht z
  · refine pc_ac1 i10 (fun s o hs h => ?_)
    have := i0.2.1.1
    rw [pc_bk_c (h1 s (Or.inl (by omega)))] at h
    exact h
end
theorem i_vc_pending {k : Nat} {u : SX} {v : SY} (I : i_Rel k u v) (hk : k + 4 ≤ 2051) : wpX_pending (fun r => wpY_pending (fun r' => r' = r ∧ i_Rel (k + 4) u v) v) u := by
  refine pr_el (P := fun u v => wpX_pending (fun r => wpY_pending (fun r' => r' = r ∧ i_Rel (k + 4) u v) v) u) ?_ I
  intro T M g wb nw ba ef du ho oF sn dp fi nx pv hm ky lv wa lf bg fr H
  unfold wpX_pending
  refine ⟨T + 1, py_pend4 (pr_T H) (pr_hw H) (pr_ho H) (pr_he H) (pr_ba H) ⟨?_, pr_in (pr_up H)⟩ T 0 (T + 1) (by omega) (by omega)⟩
  rw [pi_ctS H.1]
  apply congrArg nI
  apply pc_ct_c
  intro t ht
  show decide (pc_yd T ba ef wa ho t ≠ ef t) = decide (du t ≠ ef t)
  rw [pi_yd H.1 H.2.2.1 ht]
theorem i_vc_priority {k : Nat} {u : SX} {v : SY} (I : i_Rel k u v) (hk : k + 4 ≤ 2051) (v1 : Int32) (v2 : Int32) : wpX_priority (fun r => wpY_priority (fun r' => r' = r ∧ i_Rel (k + 4) u v) v v1 v2) u v1 v2 := by
  refine pr_el (P := fun u v => wpX_priority (fun r => wpY_priority (fun r' => r' = r ∧ i_Rel (k + 4) u v) v v1 v2) u v1 v2) ?_ I
  intro T M g wb nw ba ef du ho oF sn dp fi nx pv hm ky lv wa lf bg fr H
  have R := pr_in (pr_up H)
  have hT := pr_T H
  have hix := pk_ix v1 (n := T) (by omega)
  rw [← or_assoc] at hix
  unfold wpX_priority
  rcases hix with h | ⟨t, ht, rfl⟩
  · refine px_noT h (br_t rfl ?_)
    unfold wpY_priority
    exact py_noT h (br_t rfl ⟨rfl, R⟩)
  · have it : vp_in (nI t) 16 := vp_in_nI (by omega) (by decide)
    refine px_isT (by omega) ht (br_f (by decide) ?_)
    have Y1 : ∀ {post : Int32 → Prop}, ((v2 < 0 → post 101) ∧ (¬ v2 < 0 → (((v2 ≤ 2 → (((v2 = 0 → (vp_in (nI t) 16 ∧ (post (nI (ba (nI t).toNatClampNeg))))) ∧ (¬ v2 = 0 → (((v2 = 1 → (vp_in (nI t) 16 ∧ (post (nI (ef (nI t).toNatClampNeg))))) ∧ (¬ v2 = 1 → (wpY_due (fun r_18 => (post r_18)) (pc_Y T M g wb ba ef ho wa lf bg fr) (nI t))))))))) ∧ (¬ v2 ≤ 2 → (post 101)))))) → wpY_priority post (pc_Y T M g wb ba ef ho wa lf bg fr) (nI t) v2 := by
      intro post hp
      unfold wpY_priority
      exact py_isT (by omega) ht (br_f (by decide) hp)
    refine br_c (fun c => Y1 (br_t c ⟨rfl, R⟩)) (fun c => br_c (fun d => br_c (fun e => ⟨it, Y1 (br_f c (br_t d (br_t e ⟨it, rfl, R⟩)))⟩) (fun e => br_c (fun f => ⟨it, Y1 (br_f c (br_t d (br_f e (br_t f ⟨it, rfl, R⟩))))⟩) (fun f => ⟨it, Y1 (br_f c (br_t d (br_f e (br_f f ?_))))⟩))) (fun d => Y1 (br_f c (br_f d ⟨rfl, R⟩))))
    refine py_due hT (by omega) (pr_hw H) (pr_ho H) (pr_he H) (pr_ba H t (by omega)) ⟨?_, R⟩
    rw [pi_yd H.1 H.2.2.1 ht, nI_clamp (by omega : t < 2 ^ 31)]
theorem i_vc_owner {k : Nat} {u : SX} {v : SY} (I : i_Rel k u v) (hk : k + 4 ≤ 2051) (v1 : Int32) : wpX_owner (fun r => wpY_owner (fun r' => r' = r ∧ i_Rel (k + 4) u v) v v1) u v1 := by
  refine pr_el (P := fun u v => wpX_owner (fun r => wpY_owner (fun r' => r' = r ∧ i_Rel (k + 4) u v) v v1) u v1) ?_ I
  intro T M g wb nw ba ef du ho oF sn dp fi nx pv hm ky lv wa lf bg fr H
  have R := pr_in (pr_up H)
  have hM := pr_M H
  have hix := pk_ix v1 (n := M) (by omega)
  rw [← or_assoc] at hix
  unfold wpX_owner
  rcases hix with h | ⟨m, hm', rfl⟩
  · refine px_noM h (br_t rfl ?_)
    unfold wpY_owner
    exact py_noM h (br_t rfl ⟨rfl, R⟩)
  · have im : vp_in (nI m) 16 := vp_in_nI (by omega) (by decide)
    refine px_isM (by omega) hm' (br_f (by decide) ⟨im, br_c (fun c => ⟨im, ?_⟩) (fun c => ?_)⟩)
    · unfold wpY_owner
      exact py_isM (by omega) hm' (br_f (by decide) ⟨im, br_t c ⟨im, rfl, R⟩⟩)
    · unfold wpY_owner
      exact py_isM (by omega) hm' (br_f (by decide) ⟨im, br_f c ⟨rfl, R⟩⟩)
theorem i_vc_setBase {k : Nat} {u : SX} {v : SY} (I : i_Rel k u v) (hk : k + 4 ≤ 2051) (v1 : Int32) (v2 : Int32) : wpX_setBase (fun r u' => wpY_setBase (fun r' v' => r' = r ∧ i_Rel (k + 4) u' v') v v1 v2) u v1 v2 := by
  refine pr_el (P := fun u v => wpX_setBase (fun r u' => wpY_setBase (fun r' v' => r' = r ∧ i_Rel (k + 4) u' v') v v1 v2) u v1 v2) ?_ I
  intro T M g wb nw ba ef du ho oF sn dp fi nx pv hm ky lv wa lf bg fr H
  have R := pr_in (pr_up H)
  have hT := pr_T H
  have hix := pk_ix v1 (n := T) (by omega)
  rw [← or_assoc] at hix
  unfold wpX_setBase
  rcases hix with h | ⟨t, ht, rfl⟩
  · refine px_noT h (br_t rfl ?_)
    unfold wpY_setBase
    exact py_noT h (br_t rfl ⟨rfl, R⟩)
  · have it : vp_in (nI t) 16 := vp_in_nI (by omega) (by decide)
    refine px_isT (by omega) ht (br_f (by decide) ?_)
    refine br_c (fun c => ?_) (fun c => br_c (fun d => ⟨it, ?_⟩) (fun d => ?_))
    · unfold wpY_setBase
      exact py_isT (by omega) ht (br_f (by decide) (br_t c ⟨rfl, R⟩))
    · obtain ⟨p, hp, rfl⟩ := nI_of2 (M := 31) (n := 31) (by decide) c d
      refine nm_r (pc_cI (by omega)) ?_
      refine px_due (pi_base H.1 (by omega)) ht (fun du' lv' J => ?_)
      unfold wpY_setBase
      refine py_isT (by omega) ht (br_f (by decide) (br_f c (br_t d ⟨it, nm_r (pc_cI (by omega)) ⟨rfl, pr_in ?_⟩⟩)))
      exact pr_keep H (pi_mono (fun _ _ z => absurd z.1 z.2) (fun _ _ z => z) (fun _ z => z) (fun _ z => z) J) (fun _ _ => rfl) (fun _ _ => rfl)
    · unfold wpY_setBase
      exact py_isT (by omega) ht (br_f (by decide) (br_f c (br_f d ⟨rfl, R⟩)))
end
section
/-! own rows: waiter, waiting -/
theorem pc_split {x : Nat} : ∀ {l : List Nat} {k : Nat}, l[k]? = some x → ∃ a b, l = a ++ x :: b ∧ a.length = k
  | [], k, h => by rw [List.getElem?_nil] at h; exact nomatch h
  | y :: r, 0, h => by
    rw [List.getElem?_cons_zero] at h
    rw [Option.some.inj h]
    exact ⟨[], r, rfl, rfl⟩
  | y :: r, k + 1, h => by
    rw [List.getElem?_cons_succ] at h
    obtain ⟨a, b, e1, e2⟩ := pc_split h
    exact ⟨y :: a, b, by rw [e1]; rfl, by rw [List.length_cons, e2]⟩
theorem pc_split' {x : Nat} (a b : List Nat) : (a ++ x :: b)[a.length]? = some x := by simp
section
variable {T M g wb nw : Nat} {ba ef du sn dp ky : Nat → Nat} {ho oF fi nx pv hm lv : Nat → Option Nat} {ck : Nat} {lf bg fr : Nat → Nat} {wa : Nat → Option Nat} {k : Nat}
theorem px_w28 {post : Int32 → Prop} {ls : Nat → List Nat} {m q : Nat} (H : pc_LL ls fi nx pv hm ky) (hm' : m < 33) (hq : q < 2 ^ 31) :
    ∀ (b a : List Nat) (n : Nat), ls m = a ++ b → a.length ≤ q → b.length < n → post (pc_w (b[q - a.length]?)) → wX_waiter_28 post (nI q) 0 1 (nI T) (nI M) (nI g) (lN wb) (lN nw) (fun j => nI (ba j)) (fun j => nI (ef j)) (fun j => nI (du j)) (fun j => pc_o (ho j)) (fun j => pc_o (oF j)) (fun j => lN (sn j)) (fun j => nI (dp j)) (fun j => pc_o (fi j)) (fun j => pc_o (nx j)) (fun j => pc_o (pv j)) (fun j => pc_o (hm j)) (fun j => lN (ky j)) (pc_BU lv) (pc_OC lv) (fun j => pc_o (lv j)) (pc_ME lv) n (pc_o (pc_hd b none)) (nI a.length)
  | [], a, n + 1, hab, _, _, K => by
    rw [List.getElem?_nil] at K
    have hx : wX_waiter_51 post (pc_o none) 0 1 (nI T) (nI M) (nI g) (lN wb) (lN nw) (fun j => nI (ba j)) (fun j => nI (ef j)) (fun j => nI (du j)) (fun j => pc_o (ho j)) (fun j => pc_o (oF j)) (fun j => lN (sn j)) (fun j => nI (dp j)) (fun j => pc_o (fi j)) (fun j => pc_o (nx j)) (fun j => pc_o (pv j)) (fun j => pc_o (hm j)) (fun j => lN (ky j)) (pc_BU lv) (pc_OC lv) (fun j => pc_o (lv j)) (pc_ME lv) := br_f pc_on' K
    exact br_c (fun _ => hx) (fun _ => br_t pc_on hx)
  | y :: r, a, n + 1, hab, hl, hn, K => by
    have hlen := pc_ll_len H hm'
    rw [hab, List.length_append, List.length_cons] at hlen
    have hym : y ∈ ls m := by rw [hab]; exact List.mem_append_right _ List.mem_cons_self
    have hy : y < 48 := ((H.2.1 m y hm').mp hym).1
    have cy : (pc_o (some y)).toNatClampNeg = y := nI_clamp (by omega)
    have iy : vp_in (pc_o (some y)) 48 := vp_in_nI hy (by decide)
    have hsg := (H.1 m hm').2.1
    rw [hab] at hsg
    have hs2 := ((pc_sg_app a (y :: r) none none).mp hsg).2
    by_cases c : q ≤ a.length
    · rw [show q - a.length = 0 from by omega, List.getElem?_cons_zero] at K
      exact br_t (nI_le c (by omega)) (br_t (pc_os' (by omega)) K)
    · refine br_f (nI_ge (by omega) hq) (br_f (pc_os (by omega)) ⟨iy, ?_⟩)
      rw [show pc_hd (y :: r) none = some y from rfl, cy]
      refine nm_r (e' := pc_o (pc_hd r none)) (congrArg pc_o hs2.2.1) (nm_r (nI_1 a.length) ?_)
      rw [show q - a.length = (q - (a.length + 1)) + 1 from by omega, List.getElem?_cons_succ] at K
      have ih := px_w28 (post := post) H hm' hq r (a ++ [y]) n (by rw [hab, List.append_assoc]; rfl) (by rw [List.length_append, List.length_singleton]; omega) (by rw [List.length_cons] at hn; omega) (by rw [List.length_append, List.length_singleton]; exact K)
      rw [List.length_append] at ih
      exact ih
theorem pi_w1 (I : (pc_XI pc_0 pc_0 pc_0 pc_0 T M ba ef du ho oF sn fi nx pv hm ky lv)) (hwa : ∀ s, s < 16 → wa s = hm s) (hbg : ∀ s, s < 16 → hm s ≠ none → sn s = bg s + 1) {ls : Nat → List Nat} (H : pc_LL ls fi nx pv hm ky) {m q : Nat} (hm' : m < 16) :
    (∀ x, (ls m)[q]? = some x → x < T ∧ wa x = some m ∧ nI (pc_pl T wa ef bg x) = nI q) := by
  intro x hx
  obtain ⟨a, b, e1, e2⟩ := pc_split hx
  have xm : x ∈ ls m := by rw [e1]; exact List.mem_append_right _ List.mem_cons_self
  have x1 := (H.2.1 m x (by omega)).mp xm
  have x2 := H.2.2 x m x1.1 x1.2
  refine ⟨(pi_m16 I (by omega) x1.2).2.1, (hwa x (by omega)).trans x1.2, ?_⟩
  rw [pi_pl I hwa hbg H hm' e1, e2]
theorem pi_w2 (I : (pc_XI pc_0 pc_0 pc_0 pc_0 T M ba ef du ho oF sn fi nx pv hm ky lv)) (hwa : ∀ s, s < 16 → wa s = hm s) (hbg : ∀ s, s < 16 → hm s ≠ none → sn s = bg s + 1) {ls : Nat → List Nat} (H : pc_LL ls fi nx pv hm ky) {m q : Nat} (hm' : m < 16) (hq : q < 2 ^ 31) :
    ∀ x, x < T → wa x = some m → nI (pc_pl T wa ef bg x) = nI q → (ls m)[q]? = some x := by
  intro x hx h1 h2
  have hT := I.2.1.1
  have x1 : hm x = some m := (hwa x (by omega)).symm.trans h1
  have xm : x ∈ ls m := (H.2.1 m x (by omega)).mpr ⟨by omega, x1⟩
  obtain ⟨a, b, hab⟩ := List.append_of_mem xm
  have hle : pc_pl T wa ef bg x ≤ T := pc_ct_le _ _
  have e := (nI_eq (by omega) hq).mp h2
  rw [pi_pl I hwa hbg H hm' hab] at e
  rw [hab, ← e]
  exact pc_split' a b
end
theorem i_vc_waiter {k : Nat} {u : SX} {v : SY} (I : i_Rel k u v) (hk : k + 4 ≤ 2051) (v1 : Int32) (v2 : Int32) : wpX_waiter (fun r => wpY_waiter (fun r' => r' = r ∧ i_Rel (k + 4) u v) v v1 v2) u v1 v2 := by
  refine pr_el (P := fun u v => wpX_waiter (fun r => wpY_waiter (fun r' => r' = r ∧ i_Rel (k + 4) u v) v v1 v2) u v1 v2) ?_ I
  intro T M g wb nw ba ef du ho oF sn dp fi nx pv hm ky lv wa lf bg fr H
  have R := pr_in (pr_up H)
  have hT := pr_T H
  have hM := pr_M H
  have hix := pk_ix v1 (n := M) (by omega)
  rw [← or_assoc] at hix
  unfold wpX_waiter
  rcases hix with h | ⟨m, hm', rfl⟩
  · refine px_noM h (br_t rfl ?_)
    unfold wpY_waiter
    exact py_noM h (br_t rfl ⟨rfl, R⟩)
  · refine px_isM (by omega) hm' (br_f (by decide) (br_c (fun c => ⟨vp_in_nI (by omega) (by decide), ?_⟩) (fun c => ?_)))
    · obtain ⟨q, hq, rfl⟩ := nI_of (Int32.not_lt.mpr c)
      obtain ⟨ls, L⟩ := H.1.1
      rw [nI_clamp (by omega : m < 2 ^ 31)]
      refine nm_r (e' := pc_o (pc_hd (ls m) none)) (congrArg pc_o (L.1 m (by omega)).1) ⟨(ls m).length + 1, ?_⟩
      refine px_w28 L (by omega) hq (ls m) [] _ rfl (Nat.zero_le _) (by omega) ?_
      refine py_waiter (W := (ls m)[q]?) hT hM hm' (pr_hw H) (pr_he H) (pr_hbn H (by omega)) (pi_w1 H.1 H.2.2.1 H.2.2.2.2.1 L (by omega)) (pi_w2 H.1 H.2.2.1 H.2.2.2.2.1 L (by omega) hq) ⟨rfl, R⟩
    · refine py_waiter (W := none) hT hM hm' (pr_hw H) (pr_he H) (pr_hbn H (by omega)) (fun x z => nomatch z) (fun x h1 h2 h3 => ?_) ⟨rfl, R⟩
      exfalso
      apply c
      rw [← h3]
      have hle : pc_pl T wa ef bg x ≤ T := pc_ct_le _ _
      exact nI_pos' (by omega)
section
variable {T M g wb nw : Nat} {ba ef du sn dp ky : Nat → Nat} {ho oF fi nx pv hm lv : Nat → Option Nat} {ck : Nat} {lf bg fr : Nat → Nat} {wa : Nat → Option Nat} {k : Nat}
theorem px_rank17 {post : Int32 → Prop} {ls : Nat → List Nat} {m t : Nat} (I : (pc_XI pc_0 pc_0 pc_0 pc_0 T M ba ef du ho oF sn fi nx pv hm ky lv)) (H : pc_LL ls fi nx pv hm ky) (hm' : m < 16) (ht : t < 16) (K : post (nI ((ls m).countP (fun x => decide (sn x < sn t))))) :
    ∀ (b a : List Nat) (n : Nat), ls m = a ++ b → b.length < n → wX_rank_17 post (nI t) 0 1 (nI T) (nI M) (nI g) (lN wb) (lN nw) (fun j => nI (ba j)) (fun j => nI (ef j)) (fun j => nI (du j)) (fun j => pc_o (ho j)) (fun j => pc_o (oF j)) (fun j => lN (sn j)) (fun j => nI (dp j)) (fun j => pc_o (fi j)) (fun j => pc_o (nx j)) (fun j => pc_o (pv j)) (fun j => pc_o (hm j)) (fun j => lN (ky j)) (pc_BU lv) (pc_OC lv) (fun j => pc_o (lv j)) (pc_ME lv) n (nI (a.countP (fun x => decide (sn x < sn t)))) (pc_o (pc_hd b none)) (nI a.length)
  | [], a, n + 1, hab, _ => by
    rw [List.append_nil] at hab
    rw [hab] at K
    exact br_c (fun _ => K) (fun _ => br_t pc_on K)
  | y :: r, a, n + 1, hab, hn => by
    have hlen := pc_ll_len H (by omega : m < 33)
    rw [hab, List.length_append, List.length_cons] at hlen
    have hym : y ∈ ls m := by rw [hab]; exact List.mem_append_right _ List.mem_cons_self
    have y1 := (H.2.1 m y (by omega)).mp hym
    have y2 := H.2.2 y m y1.1 y1.2
    have hy : y < 16 := by omega
    have cy : (pc_o (some y)).toNatClampNeg = y := nI_clamp (by omega)
    have iy : vp_in (pc_o (some y)) 48 := vp_in_nI (by omega) (by decide)
    have iy6 : vp_in (pc_o (some y)) 16 := vp_in_nI hy (by decide)
    have it : vp_in (nI t) 16 := vp_in_nI ht (by decide)
    have hsg := (H.1 m (by omega)).2.1
    rw [hab] at hsg
    have hs2 := ((pc_sg_app a (y :: r) none none).mp hsg).2
    have sy := (I.2.1.2.2.1 y hy).2.2.2
    have st := (I.2.1.2.2.1 t ht).2.2.2
    have ih := px_rank17 I H hm' ht K r (a ++ [y]) n (by rw [hab, List.append_assoc]; rfl) (by rw [List.length_cons] at hn; omega)
    rw [List.length_append, List.countP_append, List.countP_singleton] at ih
    refine br_f (nI_ge (b := 16) (by omega) (by decide)) (br_f (pc_os (by omega)) ⟨iy6, it, ?_⟩)
    rw [show pc_hd (y :: r) none = some y from rfl, cy, nI_clamp (by omega : t < 2 ^ 31)]
    by_cases c : sn y < sn t
    · rw [decide_eq_true c] at ih
      refine br_f (fun z => ?_) (nm_r (nI_1 _) ⟨iy, nm_r (e' := pc_o (pc_hd r none)) (congrArg pc_o hs2.2.1) (nm_r (nI_1 a.length) ih)⟩)
      have := (pk_lLE (by omega) (by omega)).mp z
      omega
    · rw [decide_eq_false c] at ih
      exact br_t ((pk_lLE (by omega) (by omega)).mpr (by omega)) ⟨iy, nm_r (e' := pc_o (pc_hd r none)) (congrArg pc_o hs2.2.1) (nm_r (nI_1 a.length) ih)⟩
theorem py_wt60 {post : Int32 → Prop} {t : Nat} (ht : t < 16) (hT : T ≤ 16) (hw : ∀ x m, x < 16 → wa x = some m → m < 16) (hb : ∀ x, x < 16 → bg x < 2 ^ 58) (K : post (nI (pc_ct (fun x => decide (wa x = wa t ∧ bg x < bg t)) T))) :
    ∀ (d i n : Nat), i + d = T → d < n → wY_waiting_60 post (nI t) (nI T) (nI M) (nI g) (lN ck) (fun j => nI (ba j)) (fun j => nI (ef j)) (fun j => pc_o (ho j)) (fun j => pc_o (wa j)) (fun j => nI (lf j)) (fun j => lN (bg j)) (fun j => nI (fr j)) n (nI (pc_ct (fun x => decide (wa x = wa t ∧ bg x < bg t)) i)) (nI i)
  | 0, i, n + 1, h, _ => by
    have e : i = T := by omega
    subst e
    exact br_t (nI_le (Nat.le_refl _) (by omega)) K
  | d + 1, i, n + 1, h, hn => by
    have ih := py_wt60 ht hT hw hb K d (i + 1) n (by omega) (by omega)
    have hi : i < 16 := by omega
    have ii : vp_in (nI i) 16 := vp_in_nI hi (by decide)
    have it : vp_in (nI t) 16 := vp_in_nI ht (by decide)
    have ei : pc_ct (fun x => decide (wa x = wa t ∧ bg x < bg t)) (i + 1) = pc_ct (fun x => decide (wa x = wa t ∧ bg x < bg t)) i + (if decide (wa i = wa t ∧ bg i < bg t) = true then 1 else 0) := rfl
    have hbi := hb i hi
    have hbt := hb t ht
    refine br_f (nI_ge (by omega) (by omega)) ⟨ii, it, ?_⟩
    rw [nI_clamp (by omega : i < 2 ^ 31), nI_clamp (by omega : t < 2 ^ 31)]
    by_cases c : wa i = wa t
    · refine br_t (congrArg pc_o c) ⟨ii, it, ?_⟩
      by_cases f : bg i < bg t
      · rw [ei, decide_eq_true ⟨c, f⟩] at ih
        refine br_f (fun z => ?_) (nm_r (nI_1 _) (nm_r (nI_1 i) ih))
        have := (pk_lLE (by omega) (by omega)).mp z
        omega
      · rw [ei, decide_eq_false (fun z => f z.2)] at ih
        exact br_t ((pk_lLE (by omega) (by omega)).mpr (by omega)) (nm_r (nI_1 i) ih)
    · rw [ei, decide_eq_false (fun z => c z.1)] at ih
      exact br_f (fun z => c (pc_oinj (fun n hn => Nat.lt_trans (hw i n hi hn) (by decide)) (fun n hn => Nat.lt_trans (hw t n ht hn) (by decide)) z)) (nm_r (nI_1 i) ih)
end
theorem i_vc_waiting {k : Nat} {u : SX} {v : SY} (I : i_Rel k u v) (hk : k + 4 ≤ 2051) (v1 : Int32) (v2 : Int32) : wpX_waiting (fun r => wpY_waiting (fun r' => r' = r ∧ i_Rel (k + 4) u v) v v1 v2) u v1 v2 := by
  refine pr_el (P := fun u v => wpX_waiting (fun r => wpY_waiting (fun r' => r' = r ∧ i_Rel (k + 4) u v) v v1 v2) u v1 v2) ?_ I
  intro T M g wb nw ba ef du ho oF sn dp fi nx pv hm ky lv wa lf bg fr H
  have R := pr_in (pr_up H)
  have hT := pr_T H
  have hix := pk_ix v1 (n := T) (by omega)
  rw [← or_assoc] at hix
  unfold wpX_waiting
  rcases hix with h | ⟨t, ht, rfl⟩
  · refine px_noT h (br_t rfl ?_)
    unfold wpY_waiting
    exact py_noT h (br_t rfl ⟨rfl, R⟩)
  · have h16 : t < 16 := by omega
    have it : vp_in (nI t) 16 := vp_in_nI h16 (by decide)
    have it4 : vp_in (nI t) 48 := vp_in_nI (by omega) (by decide)
    have ct : (nI t).toNatClampNeg = t := nI_clamp (by omega)
    have hwt := H.2.2.1 t h16
    refine px_isT (by omega) ht (br_f (by decide) (br_c (fun c => ?_) (fun c => br_c (fun d => ⟨it4, ?_⟩) (fun d => ?_))))
    · unfold wpY_waiting
      exact py_isT (by omega) ht (br_f (by decide) (br_t c ⟨rfl, R⟩))
    · rw [ct]
      cases e : hm t with
      | none =>
        refine br_f (by show ¬ 0 ≤ pc_o (hm t); rw [e]; exact pc_on') ?_
        unfold wpY_waiting
        refine py_isT (by omega) ht (br_f (by decide) (br_f c (br_t d ⟨it, br_f ?_ ⟨rfl, R⟩⟩)))
        rw [ct]
        show ¬ 0 ≤ pc_o (wa t)
        rw [hwt, e]; exact pc_on'
      | some m =>
        have hm16 := (pi_m16 H.1 h16 e).1
        have eo : pc_o (hm t) = nI m := by rw [e]; rfl
        have ew : pc_o (wa t) = nI m := by rw [hwt, e]; rfl
        have hne : hm t ≠ none := by rw [e]; exact fun z => nomatch z
        refine br_t (by show 0 ≤ pc_o (hm t); rw [e]; exact pc_os' (by omega)) ?_
        have hw0 : 0 ≤ (fun j => pc_o (wa j)) (nI t).toNatClampNeg := by
          rw [ct]; show 0 ≤ pc_o (wa t); rw [ew]; exact nI_pos' (by omega)
        refine br_c (fun f => ⟨it4, ?_⟩) (fun f => br_c (fun f2 => ?_) (fun f2 => ?_))
        · unfold wpY_waiting
          refine py_isT (by omega) ht (br_f (by decide) (br_f c (br_t d ⟨it, br_t hw0 (br_t f ⟨it, ?_, R⟩)⟩)))
          rw [ct]
          show pc_o (wa t) = pc_o (hm t)
          rw [hwt]
        · have hlf := H.2.2.2.2.2.1 t h16 hne
          have hl60 := (H.2.2.2.1 t h16).2.2
          have hY : ∀ r, r = nI (lf t) → wpY_waiting (fun r' => r' = r ∧ i_Rel (k + 4) (pc_X T M g wb nw ba ef du ho oF sn dp fi nx pv hm ky lv) (pc_Y T M g wb ba ef ho wa lf bg fr)) (pc_Y T M g wb ba ef ho wa lf bg fr) (nI t) v2 := by
            intro r hr
            unfold wpY_waiting
            refine py_isT (by omega) ht (br_f (by decide) (br_f c (br_t d ⟨it, br_t hw0 (br_f f (br_t f2 ⟨it, ?_, R⟩))⟩)))
            rw [ct, hr]
          unfold wpX_timeLeft
          rw [pc_32 t, nI_clamp (by omega : 32 + t < 2 ^ 31)]
          have i32 : vp_in (nI (32 + t)) 48 := vp_in_nI (by omega) (by decide)
          refine ⟨i32, ?_⟩
          rcases Nat.eq_zero_or_pos (lf t) with z | z
          · refine br_f (by show ¬ 0 ≤ pc_o (hm (32 + t)); rw [hlf.1 z]; exact pc_on') (hY _ ?_)
            rw [z]; rfl
          · refine br_t (by show 0 ≤ pc_o (hm (32 + t)); rw [(hlf.2 z).1]; decide) ⟨i32, hY _ ?_⟩
            show (lN (ky (32 + t)) - lN nw).toInt32 = nI (lf t)
            rw [(hlf.2 z).2, lN_sub (by omega), lN_i]
            exact congrArg nI (by omega)
        · obtain ⟨ls, L⟩ := H.1.1
          unfold wpX_rank
          rw [ct]
          show vp_in (nI t) 48 ∧ (vp_in (pc_o (hm t)) 33 ∧ _)
          rw [eo]
          refine ⟨it4, vp_in_nI (by omega) (by decide), ?_⟩
          rw [show ((fun j => pc_o (hm j)) t) = nI m from eo, nI_clamp (by omega : m < 2 ^ 31)]
          refine nm_r (e' := pc_o (pc_hd (ls m) none)) (congrArg pc_o (L.1 m (by omega)).1) ⟨(ls m).length + 1, ?_⟩
          refine px_rank17 H.1 L hm16 h16 ?_ (ls m) [] _ rfl (by omega)
          unfold wpY_waiting
          refine py_isT (by omega) ht (br_f (by decide) (br_f c (br_t d ⟨it, br_t hw0 (br_f f (br_f f2 ⟨T + 1, ?_⟩))⟩)))
          refine py_wt60 h16 hT (pr_hw H) (pr_hbn H (by omega)) ⟨?_, R⟩ T 0 (T + 1) (by omega) (by omega)
          rw [← pi_ct H.1 L hm16]
          apply congrArg nI
          apply pc_ct_c
          intro x hx
          have x16 : x < 16 := by omega
          rw [← Bool.decide_and]
          apply decide_eq_decide.mpr
          rw [H.2.2.1 x x16, hwt, e]
          have s2 := H.2.2.2.2.1 t h16 hne
          constructor
          · rintro ⟨h1, h2⟩
            have s1 := H.2.2.2.2.1 x x16 (by rw [h1]; exact fun z => nomatch z)
            exact ⟨h1, by omega⟩
          · rintro ⟨h1, h2⟩
            have s1 := H.2.2.2.2.1 x x16 (by rw [h1]; exact fun z => nomatch z)
            exact ⟨h1, by omega⟩
    · unfold wpY_waiting
      exact py_isT (by omega) ht (br_f (by decide) (br_f c (br_f d ⟨rfl, R⟩)))
end
section
/-! own rows: runner, walk, walkAt -/
def pc_Am (p : Nat → Prop) (f : Nat → Nat) (i : Nat) (b : Option Nat) : Prop :=
  (b = none ∧ ∀ x, x < i → ¬ p x) ∨ ∃ t, b = some t ∧ t < i ∧ p t ∧ ∀ x, x < i → p x → f x ≤ f t ∧ (f x = f t → t ≤ x)
theorem pc_am_0 {p : Nat → Prop} {f : Nat → Nat} : pc_Am p f 0 none := Or.inl ⟨rfl, fun x hx => by omega⟩
theorem pc_am_skip {p : Nat → Prop} {f : Nat → Nat} {i : Nat} {b : Option Nat} (h : pc_Am p f i b) (hp : ¬ p i) : pc_Am p f (i + 1) b := by
  rcases h with ⟨e, h⟩ | ⟨t, e, ht, hpt, h⟩
  · refine Or.inl ⟨e, fun x hx => ?_⟩
    rcases Nat.lt_or_ge x i with c | c
    · exact h x c
    · have : x = i := by omega
      rw [this]; exact hp
  · refine Or.inr ⟨t, e, by omega, hpt, fun x hx hpx => ?_⟩
    rcases Nat.lt_or_ge x i with c | c
    · exact h x c hpx
    · have : x = i := by omega
      exact absurd (this ▸ hpx) hp
theorem pc_am_none {p : Nat → Prop} {f : Nat → Nat} {i : Nat} (h : pc_Am p f i none) (hp : p i) : pc_Am p f (i + 1) (some i) := by
  rcases h with ⟨_, h⟩ | ⟨t, e, _⟩
  · refine Or.inr ⟨i, rfl, by omega, hp, fun x hx hpx => ?_⟩
    rcases Nat.lt_or_ge x i with c | c
    · exact absurd hpx (h x c)
    · have : x = i := by omega
      rw [this]; exact ⟨Nat.le_refl _, fun _ => Nat.le_refl _⟩
  · exact nomatch e
theorem pc_am_gt {p : Nat → Prop} {f : Nat → Nat} {i t : Nat} (h : pc_Am p f i (some t)) (hp : p i) (hf : f t < f i) : pc_Am p f (i + 1) (some i) := by
  rcases h with ⟨e, _⟩ | ⟨t', e, ht, hpt, h⟩
  · exact nomatch e
  · have e' := Option.some.inj e
    subst e'
    refine Or.inr ⟨i, rfl, by omega, hp, fun x hx hpx => ?_⟩
    rcases Nat.lt_or_ge x i with c | c
    · have := h x c hpx
      exact ⟨by omega, fun z => by omega⟩
    · have : x = i := by omega
      rw [this]; exact ⟨Nat.le_refl _, fun _ => Nat.le_refl _⟩
theorem pc_am_le {p : Nat → Prop} {f : Nat → Nat} {i t : Nat} (h : pc_Am p f i (some t)) (hf : f i ≤ f t) : pc_Am p f (i + 1) (some t) := by
  rcases h with ⟨e, _⟩ | ⟨t', e, ht, hpt, h⟩
  · exact nomatch e
  · have e' := Option.some.inj e
    subst e'
    refine Or.inr ⟨t, rfl, by omega, hpt, fun x hx hpx => ?_⟩
    rcases Nat.lt_or_ge x i with c | c
    · exact h x c hpx
    · have : x = i := by omega
      subst this
      exact ⟨hf, fun _ => by omega⟩
theorem pc_gr_am {p : Nat → Prop} {f : Nat → Nat} {T s : Nat} {lv : Nat → Option Nat} {G b : Option Nat} (hT : T ≤ 16) (h1 : ∀ t, t < T → p t → lv (16 * s + t) = some (f t)) (h2 : ∀ t, t < T → ¬ p t → lv (16 * s + t) = none) (h3 : ∀ t, T ≤ t → t < 16 → lv (16 * s + t) = none)
    (hG : pc_Gr lv s G) (hb : pc_Am p f T b) : G = b := by
  have hlt : ∀ t l, t < 16 → lv (16 * s + t) = some l → t < T ∧ p t ∧ l = f t := by
    intro t l ht hl
    rcases Nat.lt_or_ge t T with c | c
    · by_cases q : p t
      · rw [h1 t c q] at hl
        exact ⟨c, q, (Option.some.inj hl).symm⟩
      · rw [h2 t c q] at hl; exact nomatch hl
    · rw [h3 t c ht] at hl; exact nomatch hl
  rcases hG with ⟨e, h⟩ | ⟨t, l, e, ht, hl, h⟩
  · rcases hb with ⟨e', h'⟩ | ⟨t', e', ht', hpt', h'⟩
    · rw [e, e']
    · have a := h1 t' ht' hpt'
      rw [h t' (by omega)] at a
      exact nomatch a
  · obtain ⟨a1, a2, a3⟩ := hlt t l ht hl
    rcases hb with ⟨e', h'⟩ | ⟨t', e', ht', hpt', h'⟩
    · exact absurd a2 (h' t a1)
    · rw [e, e']
      have b1 := h t' (f t') (by omega) (h1 t' ht' hpt')
      have b2 := h' t a1 a2
      have b3 : f t = f t' := by omega
      have b4 := b1.2 (by omega)
      have b5 := b2.2 b3
      have : t = t' := by omega
      rw [this]
section
variable {T M g wb nw : Nat} {ba ef du sn dp ky : Nat → Nat} {ho oF fi nx pv hm lv : Nat → Option Nat} {ck : Nat} {lf bg fr : Nat → Nat} {wa : Nat → Option Nat} {k : Nat}
theorem py_run45 {post : Int32 → Prop} {J : Int32 → Int32 → Int32 → Prop} {p : Nat → Prop} {i : Nat} {b : Option Nat} (hi : i < 16) (he : ∀ x, x < 16 → ef x < 32) (hb : pc_Am p ef i b) (hp : p i)
    (K : ∀ b', pc_Am p ef (i + 1) b' → J (pc_w b') (pc_o (b'.map ef)) (nI (i + 1))) : wY_runner_45 post J (pc_w b) (pc_o (b.map ef)) (nI i) 1 (nI T) (nI M) (nI g) (lN ck) (fun j => nI (ba j)) (fun j => nI (ef j)) (fun j => pc_o (ho j)) (fun j => pc_o (wa j)) (fun j => nI (lf j)) (fun j => lN (bg j)) (fun j => nI (fr j)) := by
  have ii : vp_in (nI i) 16 := vp_in_nI hi (by decide)
  have hei := he i hi
  unfold wY_runner_45
  refine br_f (by decide) ⟨ii, ?_⟩
  rw [nI_clamp (by omega : i < 2 ^ 31)]
  cases b with
  | none =>
    refine br_f ?_ ⟨ii, nm_e (nm_r (nI_1 i) (K (some i) (pc_am_none hb hp)))⟩
    intro z
    have h1 : (-1 : Int32) < nI (ef i) := by
      have : (-1 : Int32) < 0 := by decide
      exact Int32.lt_of_lt_of_le this (nI_pos' (by omega))
    exact absurd z (Int32.not_le.mpr h1)
  | some t =>
    have hti : t < i := by
      rcases hb with ⟨e, _⟩ | ⟨t', e, ht, _⟩
      · exact nomatch e
      · rw [Option.some.inj e]; exact ht
    have het := he t (by omega)
    by_cases c : ef i ≤ ef t
    · exact br_t (nI_le (b := ef t) c (by omega)) (nm_r (nI_1 i) (K (some t) (pc_am_le hb c)))
    · exact br_f (nI_ge (b := ef i) (a := ef t) (by omega) (by omega)) ⟨ii, nm_e (nm_r (nI_1 i) (K (some i) (pc_am_gt hb hp (by omega))))⟩
theorem py_run7 {post : Int32 → Prop} (hT : T ≤ 16) (hw : ∀ x m, x < 16 → wa x = some m → m < 16) (hho : ∀ m o, m < 16 → ho m = some o → o < 16) (he : ∀ x, x < 16 → ef x < 32) (hb : ∀ x, x < 16 → bg x < 2 ^ 58)
    (K : ∀ b, pc_Am (fun x => wa x = none ∨ (pc_bk wa ho x = none ∧ pc_pl T wa ef bg x = 0)) ef T b → post (pc_w b)) :
    ∀ (d i n : Nat) (b : Option Nat), i + d = T → d < n → pc_Am (fun x => wa x = none ∨ (pc_bk wa ho x = none ∧ pc_pl T wa ef bg x = 0)) ef i b → wY_runner_7 post (nI T) (nI M) (nI g) (lN ck) (fun j => nI (ba j)) (fun j => nI (ef j)) (fun j => pc_o (ho j)) (fun j => pc_o (wa j)) (fun j => nI (lf j)) (fun j => lN (bg j)) (fun j => nI (fr j)) n (pc_w b) (pc_o (b.map ef)) (nI i)
  | 0, i, n + 1, b, h, _, hA => by
    have e : i = T := by omega
    subst e
    exact br_t (nI_le (Nat.le_refl _) (by omega)) (K b hA)
  | d + 1, i, n + 1, b, h, hn, hA => by
    have hi : i < 16 := by omega
    have ii : vp_in (nI i) 16 := vp_in_nI hi (by decide)
    have ih : ∀ b', pc_Am (fun x => wa x = none ∨ (pc_bk wa ho x = none ∧ pc_pl T wa ef bg x = 0)) ef (i + 1) b' → wY_runner_7 post (nI T) (nI M) (nI g) (lN ck) (fun j => nI (ba j)) (fun j => nI (ef j)) (fun j => pc_o (ho j)) (fun j => pc_o (wa j)) (fun j => nI (lf j)) (fun j => lN (bg j)) (fun j => nI (fr j)) n (pc_w b') (pc_o (b'.map ef)) (nI (i + 1)) := fun b' hA' => py_run7 hT hw hho he hb K d (i + 1) n b' (by omega) (by omega) hA'
    have yes : (wa i = none ∨ (pc_bk wa ho i = none ∧ pc_pl T wa ef bg i = 0)) → wY_runner_40 post (wY_runner_7 post (nI T) (nI M) (nI g) (lN ck) (fun j => nI (ba j)) (fun j => nI (ef j)) (fun j => pc_o (ho j)) (fun j => pc_o (wa j)) (fun j => nI (lf j)) (fun j => lN (bg j)) (fun j => nI (fr j)) n) (pc_w b) (pc_o (b.map ef)) (nI i) (nI T) (nI M) (nI g) (lN ck) (fun j => nI (ba j)) (fun j => nI (ef j)) (fun j => pc_o (ho j)) (fun j => pc_o (wa j)) (fun j => nI (lf j)) (fun j => lN (bg j)) (fun j => nI (fr j)) := fun hp => by
      unfold wY_runner_40
      exact py_run45 hi he hA hp ih
    have no : ¬ (wa i = none ∨ (pc_bk wa ho i = none ∧ pc_pl T wa ef bg i = 0)) → wY_runner_44 post (wY_runner_7 post (nI T) (nI M) (nI g) (lN ck) (fun j => nI (ba j)) (fun j => nI (ef j)) (fun j => pc_o (ho j)) (fun j => pc_o (wa j)) (fun j => nI (lf j)) (fun j => lN (bg j)) (fun j => nI (fr j)) n) (pc_w b) (pc_o (b.map ef)) (nI i) (nI T) (nI M) (nI g) (lN ck) (fun j => nI (ba j)) (fun j => nI (ef j)) (fun j => pc_o (ho j)) (fun j => pc_o (wa j)) (fun j => nI (lf j)) (fun j => lN (bg j)) (fun j => nI (fr j)) := fun hp => by
      unfold wY_runner_44 wY_runner_45
      exact br_t rfl (nm_r (nI_1 i) (ih b (pc_am_skip hA hp)))
    refine br_f (nI_ge (by omega) (by omega)) ⟨ii, ?_⟩
    rw [nI_clamp (by omega : i < 2 ^ 31)]
    cases c : wa i with
    | none =>
      exact br_t (by show pc_o (wa i) < 0; rw [c]; exact pc_on) (yes (Or.inl c))
    | some m =>
      have hm16 := hw i m hi c
      have hne : wa i ≠ none := by rw [c]; exact fun z => nomatch z
      refine br_f (by show ¬ pc_o (wa i) < 0; rw [c]; exact pc_os (by omega)) (py_blocker hi (hw i · hi) ?_)
      cases e : pc_bk wa ho i with
      | none =>
        refine br_f pc_on' (py_place hi hT hw he hb ?_)
        have hle : pc_pl T wa ef bg i ≤ T := pc_ct_le _ _
        by_cases f : pc_pl T wa ef bg i = 0
        · exact br_t (by rw [f]; rfl) (yes (Or.inr ⟨e, f⟩))
        · refine br_f (nI_ne0 (by omega) (by omega)) (no (fun z => z.elim hne (fun w => f w.2)))
      | some o =>
        have : o < 16 := by
          obtain ⟨m', h1, h2⟩ := pc_bk_s e
          exact hho m' o (hw i m' hi h1) h2
        refine br_t (pc_os' (by omega)) (no (fun z => z.elim hne (fun w => ?_)))
        have := w.1
        rw [e] at this
        exact nomatch this
theorem pi_rdp (I : (pc_XI pc_0 pc_0 pc_0 pc_0 T M ba ef du ho oF sn fi nx pv hm ky lv)) (hwa : ∀ s, s < 16 → wa s = hm s) (hbg : ∀ s, s < 16 → hm s ≠ none → sn s = bg s + 1) {t : Nat} (ht : t < T) :
    ((wa t = none ∨ (pc_bk wa ho t = none ∧ pc_pl T wa ef bg t = 0)) → lv (16 + t) = some (ef t)) ∧ (¬ (wa t = none ∨ (pc_bk wa ho t = none ∧ pc_pl T wa ef bg t = 0)) → lv (16 + t) = none) := by
  have hT := I.2.1.1
  have h16 : t < 16 := by omega
  have hr : lv (16 + t) = pc_rd hm oF ef t := I.2.2.2.2.2.2.2 t ht id
  rw [hr, hwa t h16, pc_bk_c (hwa t h16)]
  unfold pc_rd pc_bk
  cases c : hm t with
  | none => exact ⟨fun _ => rfl, fun z => absurd (Or.inl rfl) z⟩
  | some m =>
    have hm16 := (pi_m16 I h16 c).1
    have hcf := I.2.2.2.2.2.1 m hm16 id
    dsimp only
    rw [pi_pl0 I hwa hbg hm16 h16 c]
    cases d : ho m with
    | none =>
      rw [hcf.1 d]
      constructor
      · rintro (z | ⟨_, z⟩)
        · exact nomatch z
        · exact if_pos z
      · intro z
        exact if_neg (fun w => z (Or.inr ⟨rfl, w⟩))
    | some o =>
      rw [hcf.2 (by rw [d]; exact fun z => nomatch z)]
      constructor
      · rintro (z | ⟨z, _⟩)
        · exact nomatch z
        · exact nomatch z
      · intro _
        exact if_neg (fun w => nomatch w)
theorem px_isStale {post : Int32 → Prop} {t : Nat} (ht : t < 16) (hd : du t < 32) (he : ef t < 32) (K0 : du t = ef t → post 0) (K1 : du t ≠ ef t → post 1) : wpX_isStale post (pc_X T M g wb nw ba ef du ho oF sn dp fi nx pv hm ky lv) (nI t) := by
  unfold wpX_isStale
  rw [nI_clamp (by omega : t < 2 ^ 31)]
  exact ⟨vp_in_nI ht (by decide), vp_in_nI ht (by decide), br_c (fun z => K0 ((nI_eq (by omega) (by omega)).mp z)) (fun z => K1 (fun e => z (congrArg nI e)))⟩
theorem py_walk6 {post : Int32 → SY → Prop} (hT : T ≤ 16) (hw : ∀ x m, x < 16 → wa x = some m → m < 16) (hho : ∀ m o, m < 16 → ho m = some o → o < 16) (he : ∀ x, x < 16 → ef x < 32) (hb : ∀ x, x < 16 → ba x < 32)
    (K0 : pc_Am (fun x => pc_yd T ba ef wa ho x ≠ ef x) (pc_yd T ba ef wa ho) T none → post 100 (pc_Y T M g ck ba ef ho wa lf bg fr))
    (K1 : ∀ t, pc_Am (fun x => pc_yd T ba ef wa ho x ≠ ef x) (pc_yd T ba ef wa ho) T (some t) → post (nI t) (pc_Y T M g ck ba (pc_u ef t (pc_yd T ba ef wa ho t)) ho wa lf bg fr)) :
    ∀ (d i n : Nat) (b : Option Nat), i + d = T → d < n → pc_Am (fun x => pc_yd T ba ef wa ho x ≠ ef x) (pc_yd T ba ef wa ho) i b → wY_walk_6 post (nI T) (nI M) (nI g) (lN ck) (fun j => nI (ba j)) (fun j => nI (ef j)) (fun j => pc_o (ho j)) (fun j => pc_o (wa j)) (fun j => nI (lf j)) (fun j => lN (bg j)) (fun j => nI (fr j)) n (pc_o b) (pc_o (b.map (pc_yd T ba ef wa ho))) (nI i)
  | 0, i, n + 1, b, h, _, hA => by
    have e : i = T := by omega
    subst e
    refine br_t (nI_le (Nat.le_refl _) (by omega)) ?_
    cases b with
    | none => exact br_f pc_on' (K0 hA)
    | some t =>
      have hti : t < i := by
        rcases hA with ⟨e, _⟩ | ⟨t', e, ht, _⟩
        · exact nomatch e
        · rw [Option.some.inj e]; exact ht
      exact br_t (pc_os' (by omega)) ⟨vp_in_nI (by omega) (by decide), nm_r (pc_cI (v := pc_yd i ba ef wa ho t) (by omega)) (K1 t hA)⟩
  | d + 1, i, n + 1, b, h, hn, hA => by
    have hi : i < 16 := by omega
    have hyi : ∀ x, x < 16 → pc_yd T ba ef wa ho x < 32 := fun x hx => pc_yd_b hT he (hb x hx)
    have hyd := hyi i hi
    have ih : ∀ b', pc_Am (fun x => pc_yd T ba ef wa ho x ≠ ef x) (pc_yd T ba ef wa ho) (i + 1) b' → wY_walk_6 post (nI T) (nI M) (nI g) (lN ck) (fun j => nI (ba j)) (fun j => nI (ef j)) (fun j => pc_o (ho j)) (fun j => pc_o (wa j)) (fun j => nI (lf j)) (fun j => lN (bg j)) (fun j => nI (fr j)) n (pc_o b') (pc_o (b'.map (pc_yd T ba ef wa ho))) (nI (i + 1)) := fun b' hA' => py_walk6 hT hw hho he hb K0 K1 d (i + 1) n b' (by omega) (by omega) hA'
    refine br_f (nI_ge (by omega) (by omega)) (py_stale hT hi hw hho he (hb i hi) (fun z => ?_) (fun z => ?_))
    · exact br_t rfl (nm_r (nI_1 i) (ih b (pc_am_skip hA (fun w => w z))))
    · refine br_f (by decide) (py_due hT hi hw hho he (hb i hi) ?_)
      cases b with
      | none =>
        refine br_f ?_ (py_due hT hi hw hho he (hb i hi) (nm_r (nI_1 i) (ih (some i) (pc_am_none hA z))))
        intro w
        have h1 : (-1 : Int32) < nI (pc_yd T ba ef wa ho i) := Int32.lt_of_lt_of_le (by decide : (-1 : Int32) < 0) (nI_pos' (by omega))
        exact absurd w (Int32.not_le.mpr h1)
      | some t =>
        have hti : t < i := by
          rcases hA with ⟨e, _⟩ | ⟨t', e, ht, _⟩
          · exact nomatch e
          · rw [Option.some.inj e]; exact ht
        have hyt := hyi t (by omega)
        by_cases c : pc_yd T ba ef wa ho i ≤ pc_yd T ba ef wa ho t
        · exact br_t (nI_le (b := pc_yd T ba ef wa ho t) c (by omega)) (nm_r (nI_1 i) (ih (some t) (pc_am_le hA c)))
        · exact br_f (nI_ge (a := pc_yd T ba ef wa ho t) (by omega) (by omega)) (py_due hT hi hw hho he (hb i hi) (nm_r (nI_1 i) (ih (some i) (pc_am_gt hA z (by omega)))))
end
theorem i_vc_runner {k : Nat} {u : SX} {v : SY} (I : i_Rel k u v) (hk : k + 4 ≤ 2051) : wpX_runner (fun r => wpY_runner (fun r' => r' = r ∧ i_Rel (k + 4) u v) v) u := by
  refine pr_el (P := fun u v => wpX_runner (fun r => wpY_runner (fun r' => r' = r ∧ i_Rel (k + 4) u v) v) u) ?_ I
  intro T M g wb nw ba ef du ho oF sn dp fi nx pv hm ky lv wa lf bg fr H
  have R := pr_in (pr_up H)
  have hT := pr_T H
  have hbn := pr_hbn H (by omega)
  unfold wpX_runner
  refine px_greatest (s := 1) (by decide) H.1.2.2.2.1.1 (fun G hG => ?_)
  have hY : ∀ r, r = pc_w G → wpY_runner (fun r' => r' = r ∧ i_Rel (k + 4) (pc_X T M g wb nw ba ef du ho oF sn dp fi nx pv hm ky lv) (pc_Y T M g wb ba ef ho wa lf bg fr)) (pc_Y T M g wb ba ef ho wa lf bg fr) := by
    intro r hr
    refine ⟨T + 1, py_run7 hT (pr_hw H) (pr_ho H) (pr_he H) hbn (fun b hb => ⟨?_, R⟩) T 0 (T + 1) none (by omega) (by omega) pc_am_0⟩
    rw [hr, pc_gr_am hT (fun t ht hp => ?_) (fun t ht hp => ?_) (fun t h1 h2 => ?_) hG hb]
    · rw [show 16 * 1 + t = 16 + t from by omega]; exact (pi_rdp H.1 H.2.2.1 H.2.2.2.2.1 ht).1 hp
    · rw [show 16 * 1 + t = 16 + t from by omega]; exact (pi_rdp H.1 H.2.2.1 H.2.2.2.2.1 ht).2 hp
    · rw [show 16 * 1 + t = 16 + t from by omega]; exact (H.1.2.2.2.1.2 t h1 h2).2
  cases G with
  | none => exact br_f pc_on' (hY _ rfl)
  | some t =>
    have ht : t < 16 := by
      rcases hG with ⟨e, _⟩ | ⟨t', l, e, ht, _⟩
      · exact nomatch e
      · rw [Option.some.inj e]; exact ht
    exact br_t (pc_os' (by omega)) (hY _ rfl)
theorem i_vc_walk {k : Nat} {u : SX} {v : SY} (I : i_Rel k u v) (hk : k + 4 ≤ 2051) : wpX_walk (fun r u' => wpY_walk (fun r' v' => r' = r ∧ i_Rel (k + 4) u' v') v) u := by
  refine pr_el (P := fun u v => wpX_walk (fun r u' => wpY_walk (fun r' v' => r' = r ∧ i_Rel (k + 4) u' v') v) u) ?_ I
  intro T M g wb nw ba ef du ho oF sn dp fi nx pv hm ky lv wa lf bg fr H
  have R := pr_in (pr_up H)
  have hT := pr_T H
  have hyd : ∀ t, t < T → pc_yd T ba ef wa ho t = du t := fun t ht => pi_yd H.1 H.2.2.1 ht
  unfold wpX_walk
  refine px_greatest (s := 0) (by decide) H.1.2.2.2.1.1 (fun G hG => ?_)
  have hGb : ∀ b, pc_Am (fun x => pc_yd T ba ef wa ho x ≠ ef x) (pc_yd T ba ef wa ho) T b → G = b := fun b hb => by
    refine pc_gr_am hT (fun t ht hp => ?_) (fun t ht hp => ?_) (fun t h1 h2 => ?_) hG hb
    · rw [show 16 * 0 + t = t from by omega, pi_lv0 H.1 ht, hyd t ht]
      exact if_neg (fun z => hp ((hyd t ht).trans z))
    · rw [show 16 * 0 + t = t from by omega, pi_lv0 H.1 ht]
      refine if_pos ?_
      rw [← hyd t ht]
      exact Classical.byContradiction hp
    · rw [show 16 * 0 + t = t from by omega]; exact (H.1.2.2.2.1.2 t h1 h2).1
  cases G with
  | none =>
    refine br_f pc_on' ⟨T + 1, ?_⟩
    exact py_walk6 hT (pr_hw H) (pr_ho H) (pr_he H) (pr_ba H) (fun _ => ⟨rfl, R⟩) (fun t hA => nomatch hGb _ hA) T 0 (T + 1) none (by omega) (by omega) pc_am_0
  | some t =>
    have hG' := hG
    rcases hG' with ⟨e, _⟩ | ⟨t', l, e, ht16, hl, _⟩
    · exact nomatch e
    · have e' := Option.some.inj e
      subst e'
      have ht : t < T := by
        rcases Nat.lt_or_ge t T with c | c
        · exact c
        · rw [show 16 * 0 + t = t from by omega, (H.1.2.2.2.1.2 t c ht16).1] at hl
          exact nomatch hl
      refine br_t (pc_os' (by omega)) ⟨vp_in_nI ht16 (by decide), ?_⟩
      rw [show (pc_o (some t)).toNatClampNeg = t from nI_clamp (by omega)]
      refine px_setEff H.1 ht (H.1.2.1.2.2.1 t ht16).2.2.1 (fun du' oF' fi' nx' pv' hm' ky' lv' J h1 h2 => ?_)
      refine ⟨T + 1, py_walk6 hT (pr_hw H) (pr_ho H) (pr_he H) (pr_ba H) (fun hA => nomatch hGb _ hA) (fun t2 hA => ?_) T 0 (T + 1) none (by omega) (by omega) pc_am_0⟩
      have e2 := Option.some.inj (hGb _ hA)
      subst e2
      refine ⟨rfl, ?_⟩
      rw [hyd t ht]
      exact pr_in (pr_keep H J h1 h2)
theorem i_vc_walkAt {k : Nat} {u : SX} {v : SY} (I : i_Rel k u v) (hk : k + 4 ≤ 2051) (v1 : Int32) : wpX_walkAt (fun r u' => wpY_walkAt (fun r' v' => r' = r ∧ i_Rel (k + 4) u' v') v v1) u v1 := by
  refine pr_el (P := fun u v => wpX_walkAt (fun r u' => wpY_walkAt (fun r' v' => r' = r ∧ i_Rel (k + 4) u' v') v v1) u v1) ?_ I
  intro T M g wb nw ba ef du ho oF sn dp fi nx pv hm ky lv wa lf bg fr H
  have R := pr_in (pr_up H)
  have hT := pr_T H
  have hix := pk_ix v1 (n := T) (by omega)
  rw [← or_assoc] at hix
  unfold wpX_walkAt
  rcases hix with h | ⟨t, ht, rfl⟩
  · refine px_noT h (br_t rfl ?_)
    unfold wpY_walkAt
    exact py_noT h (br_t rfl ⟨rfl, R⟩)
  · have h16 : t < 16 := by omega
    have it : vp_in (nI t) 16 := vp_in_nI h16 (by decide)
    have hr := H.1.2.1.2.2.1 t h16
    have hyd := pi_yd H.1 H.2.2.1 ht
    refine px_isT (by omega) ht (br_f (by decide) (px_isStale h16 hr.2.2.1 hr.2.1 (fun c => ?_) (fun c => ?_)))
    · refine br_t rfl ?_
      unfold wpY_walkAt
      refine py_isT (by omega) ht (br_f (by decide) (py_stale hT h16 (pr_hw H) (pr_ho H) (pr_he H) (pr_ba H t h16) (fun _ => br_t rfl ⟨rfl, R⟩) (fun z => absurd (hyd.trans c) z)))
    · refine br_f (by decide) ⟨it, ?_⟩
      rw [nI_clamp (by omega : t < 2 ^ 31)]
      refine px_setEff H.1 ht hr.2.2.1 (fun du' oF' fi' nx' pv' hm' ky' lv' J h1 h2 => ?_)
      have H' := pr_keep H J h1 h2
      have R' := pr_in H'
      refine px_next h16 (pr_hx H' t · h16) ?_
      have hYs : ∀ {post : Int32 → SY → Prop}, wpY_blocker (fun r_41 => (((r_41 < 0 → (post 100 (pc_Y T M g wb ba (pc_u ef t (du t)) ho wa lf bg fr))) ∧ (¬ r_41 < 0 → (wpY_stale (fun r_54 => (((r_54 = 0 → (post 100 (pc_Y T M g wb ba (pc_u ef t (du t)) ho wa lf bg fr))) ∧ (¬ r_54 = 0 → (post r_41 (pc_Y T M g wb ba (pc_u ef t (du t)) ho wa lf bg fr)))))) (pc_Y T M g wb ba (pc_u ef t (du t)) ho wa lf bg fr) r_41))))) (pc_Y T M g wb ba (pc_u ef t (du t)) ho wa lf bg fr) (nI t) → wpY_walkAt post (pc_Y T M g wb ba ef ho wa lf bg fr) (nI t) := by
        intro post hp
        unfold wpY_walkAt
        refine py_isT (by omega) ht (br_f (by decide) (py_stale hT h16 (pr_hw H) (pr_ho H) (pr_he H) (pr_ba H t h16) (fun z => absurd (hyd.symm.trans z) c) (fun _ => br_f (by decide) (py_due hT h16 (pr_hw H) (pr_ho H) (pr_he H) (pr_ba H t h16) ?_))))
        rw [hyd]
        exact ⟨it, nm_r (pc_cI (by omega)) hp⟩
      cases d : pc_bk hm' ho t with
      | none =>
        refine br_t pc_on (hYs (py_blocker h16 (pr_hw H' t · h16) ?_))
        rw [pr_bk H' h16, d]
        exact br_t pc_on ⟨rfl, R'⟩
      | some o =>
        have ho16 : o < 16 := by
          obtain ⟨m, h3, h4⟩ := pc_bk_s d
          exact pr_ho H' m o (pr_hx H' t m h16 h3) h4
        have hoT : o < T := by
          obtain ⟨m, h3, h4⟩ := pc_bk_s d
          exact J.2.1.2.2.2.1 m o (pr_hx H' t m h16 h3) h4
        have hr' := J.2.1.2.2.1 o ho16
        have hyd' := pi_yd J H'.2.2.1 hoT
        refine br_f (pc_os (by omega)) (px_isStale ho16 hr'.2.2.1 hr'.2.1 (fun c2 => ?_) (fun c2 => ?_))
        · refine br_t rfl (hYs (py_blocker h16 (pr_hw H' t · h16) ?_))
          rw [pr_bk H' h16, d]
          exact br_f (pc_os (by omega)) (py_stale hT ho16 (pr_hw H') (pr_ho H') (pr_he H') (pr_ba H' o ho16) (fun _ => br_t rfl ⟨rfl, R'⟩) (fun z => absurd (hyd'.trans c2) z))
        · refine br_f (by decide) (hYs (py_blocker h16 (pr_hw H' t · h16) ?_))
          rw [pr_bk H' h16, d]
          exact br_f (pc_os (by omega)) (py_stale hT ho16 (pr_hw H') (pr_ho H') (pr_he H') (pr_ba H' o ho16) (fun z => absurd (hyd'.symm.trans z) c2) (fun _ => br_f (by decide) ⟨rfl, R'⟩))
end
section
/-! own rows: unlock, claim, lock -/
section
variable {T M g wb nw : Nat} {ba ef du sn dp ky : Nat → Nat} {ho oF fi nx pv hm lv : Nat → Option Nat} {ck : Nat} {lf bg fr : Nat → Nat} {wa : Nat → Option Nat} {k : Nat}
/-- the relation again, where owners change -/
theorem pr_keepH (H : (pc_R k T M g wb nw ba ef du ho oF sn dp fi nx pv hm ky lv wa lf bg fr)) {du' ky' : Nat → Nat} {ho' oF' fi' nx' pv' hm' lv' : Nat → Option Nat} (J : (pc_XI pc_0 pc_0 pc_0 pc_0 T M ba ef du' ho' oF' sn fi' nx' pv' hm' ky' lv')) (h1 : ∀ n, n < 16 ∨ 32 ≤ n → hm' n = hm n ∧ ky' n = ky n) (hA : pc_AC T (pc_bk hm ho')) :
    (pc_R (k + 4) T M g wb nw ba ef du' ho' oF' sn dp fi' nx' pv' hm' ky' lv' wa lf bg fr) := by
  obtain ⟨i0, ⟨i1, i2, i3, i4, i5⟩, i6, i7, i8, i9, i10⟩ := H
  refine ⟨J, ⟨i1, i2, i3, by omega, by omega⟩, ?_, i7, ?_, ?_, ?_⟩
  · intro t ht
    rw [i6 t ht, (h1 t (Or.inl ht)).1]
  · intro t ht z
    rw [(h1 t (Or.inl ht)).1] at z
    exact i8 t ht z
  · intro t ht z
    rw [(h1 t (Or.inl ht)).1] at z
    rw [(h1 _ (Or.inr (by omega))).1, (h1 _ (Or.inr (by omega))).2]
    exact i9 t ht z
  · refine pc_ac1 hA (fun s o hs h => ?_)
    have := i0.2.1.1
    rw [pc_bk_c (h1 s (Or.inl (by omega))).1] at h
    exact h
theorem pi_top1 (I : (pc_XI pc_0 pc_0 pc_0 pc_0 T M ba ef du ho oF sn fi nx pv hm ky lv)) (hwa : ∀ s, s < 16 → wa s = hm s) (hbg : ∀ s, s < 16 → hm s ≠ none → sn s = bg s + 1) {m : Nat} (hm' : m < 16) : ∀ x, fi m = some x → x < T ∧ wa x = some m ∧ nI (pc_pl T wa ef bg x) = 0 := by
  intro x hx
  obtain ⟨a, b, c⟩ := pi_top I hm' hx
  refine ⟨b, (hwa x a).trans c, ?_⟩
  rw [(pi_pl0 I hwa hbg hm' a c).mpr hx]
  rfl
theorem pi_top2 (I : (pc_XI pc_0 pc_0 pc_0 pc_0 T M ba ef du ho oF sn fi nx pv hm ky lv)) (hwa : ∀ s, s < 16 → wa s = hm s) (hbg : ∀ s, s < 16 → hm s ≠ none → sn s = bg s + 1) {m : Nat} (hm' : m < 16) : ∀ x, x < T → wa x = some m → nI (pc_pl T wa ef bg x) = 0 → fi m = some x := by
  intro x hx h1 h2
  have hT := I.2.1.1
  have hle : pc_pl T wa ef bg x ≤ T := pc_ct_le _ _
  refine (pi_pl0 I hwa hbg hm' (by omega) ((hwa x (by omega)).symm.trans h1)).mp ?_
  exact (nI_eq (b := 0) (by omega) (by decide)).mp h2
theorem pc_w_100 {o : Option Nat} (h : ∀ x, o = some x → x < 100) : pc_w o = 100 ↔ o = none := by
  cases o with
  | none => exact ⟨fun _ => rfl, fun _ => rfl⟩
  | some x =>
    constructor
    · intro z
      have := (nI_eq (b := 100) (by have := h x rfl; omega) (by decide)).mp z
      have := h x rfl
      omega
    · intro z; exact nomatch z
end
theorem i_vc_unlock {k : Nat} {u : SX} {v : SY} (I : i_Rel k u v) (hk : k + 4 ≤ 2051) (v1 : Int32) (v2 : Int32) : wpX_unlock (fun r u' => wpY_unlock (fun r' v' => r' = r ∧ i_Rel (k + 4) u' v') v v1 v2) u v1 v2 := by
  refine pr_el (P := fun u v => wpX_unlock (fun r u' => wpY_unlock (fun r' v' => r' = r ∧ i_Rel (k + 4) u' v') v v1 v2) u v1 v2) ?_ I
  intro T M g wb nw ba ef du ho oF sn dp fi nx pv hm ky lv wa lf bg fr H
  have R := pr_in (pr_up H)
  have hT := pr_T H
  have hM := pr_M H
  have hix := pk_ix v1 (n := T) (by omega)
  rw [← or_assoc] at hix
  have hiy := pk_ix v2 (n := M) (by omega)
  rw [← or_assoc] at hiy
  unfold wpX_unlock
  rcases hix with h | ⟨t, ht, rfl⟩
  · refine px_noT h (br_t rfl ?_)
    unfold wpY_unlock
    exact py_noT h (br_t rfl ⟨rfl, R⟩)
  refine px_isT (by omega) ht (br_f (by decide) ?_)
  rcases hiy with h | ⟨m, hm', rfl⟩
  · refine px_noM h (br_t rfl ?_)
    unfold wpY_unlock
    exact py_isT (by omega) ht (br_f (by decide) (py_noM h (br_t rfl ⟨rfl, R⟩)))
  have h16 : t < 16 := by omega
  have hm16 : m < 16 := by omega
  have it : vp_in (nI t) 16 := vp_in_nI h16 (by decide)
  have im : vp_in (nI m) 16 := vp_in_nI hm16 (by decide)
  have ct : (nI t).toNatClampNeg = t := nI_clamp (by omega)
  have cm : (nI m).toNatClampNeg = m := nI_clamp (by omega)
  have hwt := H.2.2.1 t h16
  refine px_isM (by omega) hm' (br_f (by decide) ⟨vp_in_nI (by omega) (by decide), ?_⟩)
  rw [ct, cm]
  cases c : hm t with
  | some m' =>
    have := pr_hx H t m' h16 c
    refine br_f (by show ¬ pc_o (hm t) < 0; rw [c]; exact pc_os (by omega)) ?_
    unfold wpY_unlock
    refine py_isT (by omega) ht (br_f (by decide) (py_isM (by omega) hm' (br_f (by decide) ⟨it, br_f ?_ ⟨rfl, R⟩⟩)))
    rw [ct]
    show ¬ pc_o (wa t) < 0
    rw [hwt, c]; exact pc_os (by omega)
  | none =>
    have hw0 : (fun j => pc_o (wa j)) (nI t).toNatClampNeg < 0 := by
      rw [ct]; show pc_o (wa t) < 0; rw [hwt, c]; exact pc_on
    refine br_t (by show pc_o (hm t) < 0; rw [c]; exact pc_on) ⟨im, br_c (fun e => ?_) (fun e => ?_)⟩
    · have e' : ho m = some t := pc_oinj (b := some t) (fun n hn => Nat.lt_trans (pr_ho H m n hm16 hn) (by decide)) (fun n hn => by have := Option.some.inj hn; omega) e
      refine px_setHolder (h := none) H.1 hm16 (fun o z => nomatch z) (fun du' oF' fi' nx' pv' hm2 ky' lv' J h1 => ?_)
      have H' := pr_keepH H J h1 (pc_ac1 H.2.2.2.2.2.2 (fun s o hs hb => by
        obtain ⟨m2, b1, b2⟩ := pc_bk_s hb
        by_cases q : m2 = m
        · rw [q, pc_us] at b2; exact nomatch b2
        · rw [pc_un q] at b2; exact pc_bk_m b1 b2))
      have R' := pr_in H'
      have hY : ∀ r, ((fi' m = none ∧ r = 112) ∨ (fi' m ≠ none ∧ r = 113)) → wpY_unlock (fun r' v' => r' = r ∧ i_Rel (k + 4) (pc_X T M g wb nw ba ef du' (pc_u ho m none) oF' sn dp fi' nx' pv' hm2 ky' lv') v') (pc_Y T M g wb ba ef ho wa lf bg fr) (nI t) (nI m) := by
        intro r hr
        unfold wpY_unlock
        refine py_isT (by omega) ht (br_f (by decide) (py_isM (by omega) hm' (br_f (by decide) ⟨it, br_t hw0 ⟨im, br_t ?_ ⟨im, nm_r (pc_cO (v := none) (by omega)) ?_⟩⟩⟩)))
        · rw [cm]; exact e
        refine py_waiter (W := fi' m) hT hM hm' (pr_hw H') (pr_he H') (pr_hbn H (by omega)) (pi_top1 J H'.2.2.1 H'.2.2.2.2.1 hm16) (pi_top2 J H'.2.2.1 H'.2.2.2.2.1 hm16) ?_
        have hw := pc_w_100 (o := fi' m) (fun x hx => by have := (pi_top J hm16 hx).1; omega)
        rcases hr with ⟨a, rfl⟩ | ⟨a, rfl⟩
        · exact br_t (hw.mpr a) ⟨rfl, R'⟩
        · exact br_f (fun z => a (hw.mp z)) ⟨rfl, R'⟩
      refine ⟨vp_in_nI (by omega) (by decide), ?_⟩
      cases d : fi' m with
      | none => exact br_t (by show pc_o (fi' m) < 0; rw [d]; exact pc_on) (hY _ (Or.inl ⟨d, rfl⟩))
      | some x =>
        have hx := (pi_top J hm16 d).1
        exact br_f (by show ¬ pc_o (fi' m) < 0; rw [d]; exact pc_os (by omega)) (hY _ (Or.inr ⟨(by rw [d]; exact fun z => nomatch z), rfl⟩))
    · unfold wpY_unlock
      refine py_isT (by omega) ht (br_f (by decide) (py_isM (by omega) hm' (br_f (by decide) ⟨it, br_t hw0 ⟨im, br_f ?_ ⟨rfl, R⟩⟩⟩)))
      rw [cm]; exact e
theorem i_vc_claim {k : Nat} {u : SX} {v : SY} (I : i_Rel k u v) (hk : k + 4 ≤ 2051) (v1 : Int32) : wpX_claim (fun r u' => wpY_claim (fun r' v' => r' = r ∧ i_Rel (k + 4) u' v') v v1) u v1 := by
  refine pr_el (P := fun u v => wpX_claim (fun r u' => wpY_claim (fun r' v' => r' = r ∧ i_Rel (k + 4) u' v') v v1) u v1) ?_ I
  intro T M g wb nw ba ef du ho oF sn dp fi nx pv hm ky lv wa lf bg fr H
  have R := pr_in (pr_up H)
  have hT := pr_T H
  have hM := pr_M H
  have hix := pk_ix v1 (n := T) (by omega)
  rw [← or_assoc] at hix
  unfold wpX_claim
  rcases hix with h | ⟨t, ht, rfl⟩
  · refine px_noT h (br_t rfl ?_)
    unfold wpY_claim
    exact py_noT h (br_t rfl ⟨rfl, R⟩)
  have h16 : t < 16 := by omega
  have it : vp_in (nI t) 16 := vp_in_nI h16 (by decide)
  have ct : (nI t).toNatClampNeg = t := nI_clamp (by omega)
  have hwt := H.2.2.1 t h16
  refine px_isT (by omega) ht (br_f (by decide) ⟨vp_in_nI (by omega) (by decide), ?_⟩)
  rw [ct]
  refine nm_r (e' := pc_o (hm t)) rfl ?_
  have Y1 : ∀ {post : Int32 → SY → Prop}, (((0 ≤ pc_o (hm t) → (vp_in (pc_o (hm t)) 16 ∧ ((((fun j => pc_o (ho j)) (pc_o (hm t)).toNatClampNeg < 0 → (wpY_place (fun r_19 => (((r_19 = 0 → (vp_in (nI t) 16 ∧ ∀ a_wants_33, a_wants_33 = upd (fun j => pc_o (wa j)) (nI t).toNatClampNeg (-1) → (vp_in (pc_o (hm t)) 16 ∧ ∀ a_holder_35, a_holder_35 = upd (fun j => pc_o (ho j)) (pc_o (hm t)).toNatClampNeg (nI t) → (post 103 (nI T, nI M, nI g, lN wb, fun j => nI (ba j), fun j => nI (ef j), a_holder_35, a_wants_33, fun j => nI (lf j), fun j => lN (bg j), fun j => nI (fr j)))))) ∧ (¬ r_19 = 0 → (post 111 (pc_Y T M g wb ba ef ho wa lf bg fr)))))) (pc_Y T M g wb ba ef ho wa lf bg fr) (nI t))) ∧ (¬ (fun j => pc_o (ho j)) (pc_o (hm t)).toNatClampNeg < 0 → (post 110 (pc_Y T M g wb ba ef ho wa lf bg fr))))))) ∧ (¬ 0 ≤ pc_o (hm t) → (post 109 (pc_Y T M g wb ba ef ho wa lf bg fr))))) → wpY_claim post (pc_Y T M g wb ba ef ho wa lf bg fr) (nI t) := by
    intro post hp
    unfold wpY_claim
    refine py_isT (by omega) ht (br_f (by decide) ⟨it, nm_r (e' := pc_o (hm t)) ?_ hp⟩)
    rw [ct]
    show pc_o (wa t) = pc_o (hm t)
    rw [hwt]
  cases c : hm t with
  | none =>
    rw [c] at Y1
    exact br_f pc_on' (Y1 (br_f pc_on' ⟨rfl, R⟩))
  | some m =>
    rw [c] at Y1
    obtain ⟨hm16, _, hmM⟩ := pi_m16 H.1 h16 c
    have im : vp_in (pc_o (some m)) 16 := vp_in_nI hm16 (by decide)
    have cm : (pc_o (some m)).toNatClampNeg = m := nI_clamp (by omega)
    have h0 : 0 ≤ pc_o (some m) := pc_os' (by omega)
    rw [cm] at Y1
    refine br_t h0 ⟨im, ?_⟩
    rw [cm]
    cases d : ho m with
    | some o =>
      have hno : ¬ (fun j => pc_o (ho j)) m < 0 := by
        show ¬ pc_o (ho m) < 0
        rw [d]; exact pc_os (by have := pr_ho H m o hm16 d; omega)
      exact br_f hno (Y1 (br_t h0 ⟨im, br_f hno ⟨rfl, R⟩⟩))
    | none =>
      have hno : (fun j => pc_o (ho j)) m < 0 := by
        show pc_o (ho m) < 0
        rw [d]; exact pc_on
      have hle : pc_pl T wa ef bg t ≤ T := pc_ct_le _ _
      have hpl := pi_pl0 H.1 H.2.2.1 H.2.2.2.2.1 hm16 h16 c
      refine br_t hno ⟨vp_in_nI (by omega) (by decide), br_c (fun e => ?_) (fun e => ?_)⟩
      · have e' : fi m = some t := pc_oinj (b := some t) (fun n hn => by have := (pi_top H.1 hm16 hn).1; omega) (fun n hn => by have := Option.some.inj hn; omega) e
        refine px_endWait H.1 h16 c (fun du1 oF1 fi1 nx1 pv1 hm1 ky1 lv1 J1 k1 => ?_)
        refine px_setHolder (h := some t) J1 hm16 (fun o z => by have := Option.some.inj z; omega) (fun du' oF' fi' nx' pv' hm2 ky' lv' J h1 => ?_)
        refine Y1 (br_t h0 ⟨im, br_t hno (py_place h16 hT (pr_hw H) (pr_he H) (pr_hbn H (by omega)) (br_t (by rw [hpl.mpr e']; rfl) ⟨it, nm_r (pc_cO (v := none) (by omega)) ⟨im, nm_r (pc_uO ho m (some t)) ⟨rfl, pr_in ?_⟩⟩⟩))⟩)
        have hh : ∀ s, s < 16 → hm2 s = if s = t then none else hm s := fun s hs => by
          rw [(h1 s (Or.inl hs)).1, (k1 s (Or.inl hs)).1, pc_un (by omega)]
          by_cases q : s = t
          · rw [q, pc_us, if_pos rfl]
          · rw [pc_un q, if_neg q]
        have hh2 : ∀ s, s < 16 → s ≠ t → hm2 (32 + s) = hm (32 + s) ∧ ky' (32 + s) = ky (32 + s) := fun s hs q => by
          rw [(h1 _ (Or.inr (by omega))).1, (k1 _ (Or.inr (by omega))).1, pc_un (by omega), pc_un (by omega), (h1 _ (Or.inr (by omega))).2, (k1 _ (Or.inr (by omega))).2]
          exact ⟨rfl, rfl⟩
        obtain ⟨i0, ⟨i1, i2, i3, i4, i5⟩, i6, i7, i8, i9, i10⟩ := H
        refine ⟨J, ⟨i1, i2, i3, by omega, by omega⟩, ?_, i7, ?_, ?_, ?_⟩
        · intro s hs
          rw [hh s hs]
          by_cases q : s = t
          · rw [q, pc_us, if_pos rfl]
          · rw [pc_un q, if_neg q, i6 s hs]
        · intro s hs z
          rw [hh s hs] at z
          by_cases q : s = t
          · rw [if_pos q] at z; exact absurd rfl z
          · rw [if_neg q] at z; exact i8 s hs z
        · intro s hs z
          rw [hh s hs] at z
          by_cases q : s = t
          · rw [if_pos q] at z; exact absurd rfl z
          · rw [if_neg q] at z
            rw [(hh2 s hs q).1, (hh2 s hs q).2]
            exact i9 s hs z
        · refine pc_ac2 i10 ht (fun s o hs hb => ?_)
          obtain ⟨m2, b1, b2⟩ := pc_bk_s hb
          rw [hh s (by omega)] at b1
          by_cases q : s = t
          · rw [if_pos q] at b1; exact nomatch b1
          · rw [if_neg q] at b1
            refine ⟨q, ?_⟩
            by_cases q2 : m2 = m
            · rw [q2, pc_us] at b2
              exact Or.inr (Option.some.inj b2).symm
            · rw [pc_un q2] at b2
              exact Or.inl (pc_bk_m b1 b2)
      · refine Y1 (br_t h0 ⟨im, br_t hno (py_place h16 hT (pr_hw H) (pr_he H) (pr_hbn H (by omega)) (br_f (fun z => e ?_) ⟨rfl, R⟩))⟩)
        have : pc_pl T wa ef bg t = 0 := (nI_eq (b := 0) (by omega) (by decide)).mp z
        exact congrArg pc_o (hpl.mp this)
/-! lock -/
section
variable {T M g wb nw : Nat} {ba ef du sn dp ky : Nat → Nat} {ho oF fi nx pv hm lv : Nat → Option Nat} {ck : Nat} {lf bg fr : Nat → Nat} {wa : Nat → Option Nat} {k : Nat}
def pc_mt (ho fi : Nat → Option Nat) (ef : Nat → Nat) (g t m : Nat) : Prop := ho m = none ∧ ∀ x, fi m = some x → ef x + g ≤ ef t
theorem px_mayTake {post : Int32 → Prop} {t m : Nat} (I : (pc_XI pc_0 pc_0 pc_0 pc_0 T M ba ef du ho oF sn fi nx pv hm ky lv)) (hg : g ≤ 31) (ht : t < 16) (hm' : m < 16) (K1 : pc_mt ho fi ef g t m → post 1) (K0 : ¬ pc_mt ho fi ef g t m → post 0) : wpX_mayTake post (pc_X T M g wb nw ba ef du ho oF sn dp fi nx pv hm ky lv) (nI t) (nI m) := by
  have hT := I.2.1.1
  have het := (I.2.1.2.2.1 t ht).2.1
  have ct : (nI t).toNatClampNeg = t := nI_clamp (by omega)
  have cm : (nI m).toNatClampNeg = m := nI_clamp (by omega)
  unfold wpX_mayTake
  rw [cm, ct]
  refine ⟨vp_in_nI hm' (by decide), ?_⟩
  cases c : ho m with
  | some o =>
    refine br_f (by show ¬ pc_o (ho m) < 0; rw [c]; exact pc_os (by have := I.2.1.2.2.2.1 m o hm' c; omega)) (K0 (fun z => ?_))
    rw [z.1] at c; exact nomatch c
  | none =>
    refine br_t (by show pc_o (ho m) < 0; rw [c]; exact pc_on) ⟨vp_in_nI (by omega) (by decide), nm_r (e' := pc_o (fi m)) rfl ?_⟩
    cases d : fi m with
    | none =>
      exact br_t pc_on (K1 ⟨c, fun x z => by rw [d] at z; exact nomatch z⟩)
    | some x =>
      obtain ⟨hx16, _, _⟩ := pi_top I hm' d
      have hex := (I.2.1.2.2.1 x hx16).2.1
      have cx : (pc_o (some x)).toNatClampNeg = x := nI_clamp (by omega)
      refine br_f (pc_os (by omega)) ⟨vp_in_nI ht (by decide), vp_in_nI hx16 (by decide), ?_⟩
      rw [cx]
      show ((nI (ef t) < nI (ef x) + nI g → post 0) ∧ (¬ nI (ef t) < nI (ef x) + nI g → post 1))
      rw [nI_add]
      by_cases e : ef x + g ≤ ef t
      · exact br_f (nI_nlt e (by omega)) (K1 ⟨c, fun y z => by rw [d] at z; rw [← Option.some.inj z]; exact e⟩)
      · exact br_t (nI_lt (by omega) (by omega)) (K0 (fun z => e (z.2 x d)))
theorem py_lock134 {post : Int32 → SY → Prop} {t m : Nat} {p : Int32} (ht : t < 16) (K0 : p = 0 → post 107 (pc_Y T M g ck ba ef ho wa lf bg fr)) (K1 : ¬ p = 0 → post 104 (pc_Y T M g (ck + 1) ba ef ho (pc_u wa t (some m)) (pc_u lf t (pc_cl p 0 60)) (pc_u bg t ck) fr)) : wY_lock_134 post (nI t) (nI m) p (nI T) (nI M) (nI g) (lN ck) (fun j => nI (ba j)) (fun j => nI (ef j)) (fun j => pc_o (ho j)) (fun j => pc_o (wa j)) (fun j => nI (lf j)) (fun j => lN (bg j)) (fun j => nI (fr j)) := by
  have it : vp_in (nI t) 16 := vp_in_nI ht (by decide)
  unfold wY_lock_134
  refine br_c K0 (fun z => ⟨it, nm_r (pc_cO (v := some m) (by omega)) ?_⟩)
  refine pc_cl3 (P := fun c => wY_lock_173 post (nI t) c (nI t) (nI T) (nI M) (nI g) (lN ck) (fun j => nI (ba j)) (fun j => nI (ef j)) (fun j => pc_o (ho j)) (fun j => pc_o ((pc_u wa t (some m)) j)) (fun j => nI (lf j)) (fun j => lN (bg j)) (fun j => nI (fr j))) (lo := 0) (hi := 60) (by decide) (by decide) ?_
  unfold wY_lock_173
  exact ⟨it, nm_r (pc_cI (by omega)) ⟨it, nm_r (pc_cL (by omega)) (nm_r (lN_1 ck) (K1 z))⟩⟩
end
theorem i_vc_lock {k : Nat} {u : SX} {v : SY} (I : i_Rel k u v) (hk : k + 4 ≤ 2051) (v1 : Int32) (v2 : Int32) (v3 : Int32) : wpX_lock (fun r u' => wpY_lock (fun r' v' => r' = r ∧ i_Rel (k + 4) u' v') v v1 v2 v3) u v1 v2 v3 := by
  refine pr_el (P := fun u v => wpX_lock (fun r u' => wpY_lock (fun r' v' => r' = r ∧ i_Rel (k + 4) u' v') v v1 v2 v3) u v1 v2 v3) ?_ I
  intro T M g wb nw ba ef du ho oF sn dp fi nx pv hm ky lv wa lf bg fr H
  have R := pr_in (pr_up H)
  have hT := pr_T H
  have hM := pr_M H
  have hix := pk_ix v1 (n := T) (by omega)
  rw [← or_assoc] at hix
  have hiy := pk_ix v2 (n := M) (by omega)
  rw [← or_assoc] at hiy
  unfold wpX_lock
  rcases hix with h | ⟨t, ht, rfl⟩
  · refine px_noT h (br_t rfl ?_)
    unfold wpY_lock
    exact py_noT h (br_t rfl ⟨rfl, R⟩)
  refine px_isT (by omega) ht (br_f (by decide) ?_)
  rcases hiy with h | ⟨m, hm', rfl⟩
  · refine px_noM h (br_t rfl ?_)
    unfold wpY_lock
    exact py_isT (by omega) ht (br_f (by decide) (py_noM h (br_t rfl ⟨rfl, R⟩)))
  have h16 : t < 16 := by omega
  have hm16 : m < 16 := by omega
  have it : vp_in (nI t) 16 := vp_in_nI h16 (by decide)
  have im : vp_in (nI m) 16 := vp_in_nI hm16 (by decide)
  have ct : (nI t).toNatClampNeg = t := nI_clamp (by omega)
  have cm : (nI m).toNatClampNeg = m := nI_clamp (by omega)
  have hwt := H.2.2.1 t h16
  refine px_isM (by omega) hm' (br_f (by decide) ⟨vp_in_nI (by omega) (by decide), ?_⟩)
  rw [ct]
  cases c : hm t with
  | some m' =>
    have := pr_hx H t m' h16 c
    refine br_f (by show ¬ pc_o (hm t) < 0; rw [c]; exact pc_os (by omega)) ?_
    unfold wpY_lock
    refine py_isT (by omega) ht (br_f (by decide) (py_isM (by omega) hm' (br_f (by decide) ⟨it, br_f ?_ ⟨rfl, R⟩⟩)))
    rw [ct]
    show ¬ pc_o (wa t) < 0
    rw [hwt, c]; exact pc_os (by omega)
  | none =>
    have hw0 : (fun j => pc_o (wa j)) (nI t).toNatClampNeg < 0 := by
      rw [ct]; show pc_o (wa t) < 0; rw [hwt, c]; exact pc_on
    obtain ⟨l, c1, c2, c3, c4⟩ := pc_ch_ex H.2.2.2.2.2.2 (ho m) (fun o ho' => H.1.2.1.2.2.2.1 m o hm16 ho')
    have c1' : pc_Ch (pc_bk wa ho) (ho m) l := by
      have gen : ∀ (l : List Nat) (x : Option Nat), (∀ y ∈ l, y < T) → pc_Ch (pc_bk hm ho) x l → pc_Ch (pc_bk wa ho) x l := by
        intro l
        induction l with
        | nil => intro x _ h; exact h
        | cons y q ih =>
          intro x hy h
          refine ⟨h.1, ?_⟩
          rw [pr_bk H (by have := hy y List.mem_cons_self; omega)]
          exact ih _ (fun z hz => hy z (List.mem_cons_of_mem _ hz)) h.2
      exact gen l _ c3 c1
    have het := pr_he H t h16
    have hg := H.2.1.2.2.1
    -- the reference, after its checks
    have Y1 : ∀ {post : Int32 → SY → Prop}, (pc_mt ho fi ef g t m → post 103 (pc_Y T M g wb ba ef (pc_u ho m (some t)) wa lf bg fr)) → (¬ pc_mt ho fi ef g t m → t ∈ l → post 106 (pc_Y T M g wb ba ef ho wa lf bg fr)) →
        (¬ pc_mt ho fi ef g t m → t ∉ l → wY_lock_134 post (nI t) (nI m) v3 (nI T) (nI M) (nI g) (lN wb) (fun j => nI (ba j)) (fun j => nI (ef j)) (fun j => pc_o (ho j)) (fun j => pc_o (wa j)) (fun j => nI (lf j)) (fun j => lN (bg j)) (fun j => nI (fr j))) → wpY_lock post (pc_Y T M g wb ba ef ho wa lf bg fr) (nI t) (nI m) v3 := by
      intro post k1 k2 k3
      have hlp : ¬ pc_mt ho fi ef g t m → ∃ n, wY_lock_97 post (nI t) (nI m) v3 (nI T) (nI M) (nI g) (lN wb) (fun j => nI (ba j)) (fun j => nI (ef j)) (fun j => pc_o (ho j)) (fun j => pc_o (wa j)) (fun j => nI (lf j)) (fun j => lN (bg j)) (fun j => nI (fr j)) n (pc_o (ho m)) 0 := fun hn => ⟨l.length + 1, py_lock97 h16 hT (pr_hw H) l (ho m) 0 _ c1' (fun y hy => by have := c3 y hy; omega) (by omega) (by omega) (k2 hn) (k3 hn)⟩
      unfold wpY_lock
      refine py_isT (by omega) ht (br_f (by decide) (py_isM (by omega) hm' (br_f (by decide) ⟨it, br_t hw0 ?_⟩)))
      refine py_waiter (p := 0) (W := fi m) hT hM hm' (pr_hw H) (pr_he H) (pr_hbn H (by omega)) (pi_top1 H.1 H.2.2.1 H.2.2.2.2.1 hm16) (pi_top2 H.1 H.2.2.1 H.2.2.2.2.1 hm16) ⟨im, ?_⟩
      rw [cm, ct]
      have hw := pc_w_100 (o := fi m) (fun x hx => by have := (pi_top H.1 hm16 hx).1; omega)
      cases d : ho m with
      | some o =>
        have hn : ¬ pc_mt ho fi ef g t m := fun z => by have := z.1; rw [d] at this; exact nomatch this
        exact br_t (by show 0 ≤ pc_o (ho m); rw [d]; exact pc_os' (by have := pr_ho H m o hm16 d; omega)) ⟨im, nm_r (e' := pc_o (ho m)) rfl (hlp hn)⟩
      | none =>
        refine br_f (by show ¬ 0 ≤ pc_o (ho m); rw [d]; exact pc_on') ?_
        cases e : fi m with
        | none =>
          exact br_t rfl ⟨im, nm_r (pc_uO ho m (some t)) (k1 ⟨d, fun x z => by rw [e] at z; exact nomatch z⟩)⟩
        | some x =>
          obtain ⟨hx16, _, _⟩ := pi_top H.1 hm16 e
          have hex := pr_he H x hx16
          have cx : (pc_w (some x)).toNatClampNeg = x := nI_clamp (by omega)
          rw [e] at hw
          refine br_f (fun z => nomatch hw.mp z) ⟨it, vp_in_nI hx16 (by decide), ?_⟩
          rw [cx]
          show ((nI (ef t) < nI (ef x) + nI g → _) ∧ (¬ nI (ef t) < nI (ef x) + nI g → _))
          rw [nI_add]
          by_cases f : ef x + g ≤ ef t
          · exact br_f (nI_nlt f (by omega)) ⟨im, nm_r (pc_uO ho m (some t)) (k1 ⟨d, fun y z => by rw [e] at z; rw [← Option.some.inj z]; exact f⟩)⟩
          · exact br_t (nI_lt (by omega) (by omega)) ⟨im, nm_r (e' := pc_o (ho m)) rfl (hlp (fun z => f (z.2 x e)))⟩
    refine br_t (by show pc_o (hm t) < 0; rw [c]; exact pc_on) (px_mayTake H.1 hg h16 hm16 (fun hmt => ?_) (fun hmt => ?_))
    · refine br_f (by decide) ?_
      refine px_setHolder (h := some t) H.1 hm16 (fun o z => by have := Option.some.inj z; omega) (fun du' oF' fi' nx' pv' hm2 ky' lv' J h1 => ?_)
      refine Y1 (fun _ => ⟨rfl, pr_in ?_⟩) (fun z => absurd hmt z) (fun z => absurd hmt z)
      refine pr_keepH H J h1 (pc_ac2 H.2.2.2.2.2.2 ht (fun s o hs hb => ?_))
      obtain ⟨m2, b1, b2⟩ := pc_bk_s hb
      refine ⟨fun q => by rw [q, c] at b1; exact (nomatch b1), ?_⟩
      by_cases q2 : m2 = m
      · rw [q2, pc_us] at b2
        exact Or.inr (Option.some.inj b2).symm
      · rw [pc_un q2] at b2
        exact Or.inl (pc_bk_m b1 b2)
    · refine br_t rfl (px_closesCycle h16 hm16 (pr_hx H) c1 (fun y hy => by have := c3 y hy; omega) (by omega) (fun hin => ?_) (fun hin => ?_))
      · exact br_f (by decide) (Y1 (fun z => absurd z hmt) (fun _ _ => ⟨rfl, R⟩) (fun _ z => absurd hin z))
      · refine br_t rfl (br_c (fun e => ?_) (fun e => ?_))
        · exact Y1 (fun z => absurd z hmt) (fun _ z => absurd z hin) (fun _ _ => py_lock134 h16 (fun _ => ⟨rfl, R⟩) (fun z => absurd e z))
        · have hwb := H.2.1.2.2.2.1
          have hnw := H.2.1.2.2.2.2
          refine px_beginWait H.1 ht hm' c (by omega) (by omega) (fun s hs _ => by have := (H.2.2.2.1 s hs).1; omega) (fun du' oF' fi' nx' pv' hm2 ky' lv' J b1 b2 b3 b4 => ?_)
          refine Y1 (fun z => absurd z hmt) (fun _ z => absurd z hin) (fun _ _ => py_lock134 h16 (fun z => absurd z e) (fun _ => ⟨rfl, pr_in ?_⟩))
          obtain ⟨i0, ⟨i1, i2, i3, i4, i5⟩, i6, i7, i8, i9, i10⟩ := H
          have hc60 := (pc_cl_b (v := v3) (lo := 0) (hi := 60) (by decide) (by decide)).2
          refine ⟨J, ⟨i1, i2, i3, by omega, by omega⟩, ?_, ?_, ?_, ?_, ?_⟩
          · intro s hs
            by_cases q : s = t
            · rw [q, pc_us, b1]
            · rw [pc_un q, i6 s hs, (b2 s (Or.inl hs) q (by omega)).1]
          · intro s hs
            have := i7 s hs
            by_cases q : s = t
            · rw [q, pc_us, pc_us, pc_us]; omega
            · rw [pc_un q, pc_un q, pc_un q]; omega
          · intro s hs z
            by_cases q : s = t
            · rw [q, pc_us, pc_us]
            · rw [(b2 s (Or.inl hs) q (by omega)).1] at z
              rw [pc_un q, pc_un q]
              exact i8 s hs z
          · intro s hs z
            by_cases q : s = t
            · rw [q, pc_us]
              exact ⟨b3, b4⟩
            · rw [(b2 s (Or.inl hs) q (by omega)).1] at z
              rw [pc_un q, (b2 (32 + s) (Or.inr (by omega)) (by omega) (by omega)).1, (b2 (32 + s) (Or.inr (by omega)) (by omega) (by omega)).2]
              exact i9 s hs z
          · have hed : ∀ s o, s < T → pc_bk hm2 ho s = some o → pc_bk hm ho s = some o ∨ (s = t ∧ ho m = some o) := fun s o hs hb => by
              obtain ⟨m2, d1, d2⟩ := pc_bk_s hb
              by_cases q : s = t
              · rw [q, b1] at d1
                rw [← Option.some.inj d1] at d2
                exact Or.inr ⟨q, d2⟩
              · rw [(b2 s (Or.inl (by omega)) q (by omega)).1] at d1
                exact Or.inl (pc_bk_m d1 d2)
            cases d : ho m with
            | none =>
              refine pc_ac1 i10 (fun s o hs hb => ?_)
              rcases hed s o hs hb with z | ⟨_, z⟩
              · exact z
              · rw [d] at z; exact nomatch z
            | some o =>
              rw [d] at c1
              refine pc_ac3 i10 ht (i0.2.1.2.2.2.1 m o hm16 d) c1 hin (fun s o' hs hb => ?_)
              rcases hed s o' hs hb with z | ⟨z1, z2⟩
              · exact Or.inl z
              · rw [d] at z2
                exact Or.inr ⟨z1, (Option.some.inj z2).symm⟩
end
section
/-! own rows: tick -/
section
variable {T M g wb nw : Nat} {ba ef du sn dp ky : Nat → Nat} {ho oF fi nx pv hm lv : Nat → Option Nat} {ck : Nat} {lf bg fr : Nat → Nat} {wa : Nat → Option Nat} {k : Nat}
theorem px_tick31 {post : Int32 → SX → Prop} {hm0 : Nat → Option Nat} {ky0 : Nat → Nat} {C : Nat} (hC : C ≤ 16) (hnw : nw < 2 ^ 60)
    (K : ∀ du' oF' fi' nx' pv' hm' ky' lv', (pc_XI pc_0 pc_0 pc_0 pc_0 T M ba ef du' ho oF' sn fi' nx' pv' hm' ky' lv') →
      (∀ s, s < 16 → ((hm0 (32 + s) = some 32 ∧ ky0 (32 + s) ≤ nw) → hm' s = none) ∧ (¬ (hm0 (32 + s) = some 32 ∧ ky0 (32 + s) ≤ nw) → hm' s = hm0 s ∧ hm' (32 + s) = hm0 (32 + s)) ∧ ky' (32 + s) = ky0 (32 + s)) →
      post (nI C) (pc_X T M g wb nw ba ef du' ho oF' sn dp fi' nx' pv' hm' ky' lv')) :
    ∀ (n c : Nat) (du : Nat → Nat) (oF fi nx pv hm : Nat → Option Nat) (ky : Nat → Nat) (lv : Nat → Option Nat), (pc_XI pc_0 pc_0 pc_0 pc_0 T M ba ef du ho oF sn fi nx pv hm ky lv) →
      (∀ s, s < 16 → ((hm s = hm0 s ∧ hm (32 + s) = hm0 (32 + s)) ∨ ((hm0 (32 + s) = some 32 ∧ ky0 (32 + s) ≤ nw) ∧ hm s = none ∧ hm (32 + s) = none)) ∧ ky (32 + s) = ky0 (32 + s)) →
      c + pc_ct (fun s => decide (hm (32 + s) = some 32 ∧ ky (32 + s) ≤ nw)) 16 = C → pc_ct (fun s => decide (hm (32 + s) = some 32 ∧ ky (32 + s) ≤ nw)) 16 < n → wX_tick_31 post n (nI c) (pc_o (fi 32)) 0 1 (nI T) (nI M) (nI g) (lN wb) (lN nw) (fun j => nI (ba j)) (fun j => nI (ef j)) (fun j => nI (du j)) (fun j => pc_o (ho j)) (fun j => pc_o (oF j)) (fun j => lN (sn j)) (fun j => nI (dp j)) (fun j => pc_o (fi j)) (fun j => pc_o (nx j)) (fun j => pc_o (pv j)) (fun j => pc_o (hm j)) (fun j => lN (ky j)) (pc_BU lv) (pc_OC lv) (fun j => pc_o (lv j)) (pc_ME lv)
  | 0, c, du, oF, fi, nx, pv, hm, ky, lv, I, hinv, hc, hn => by omega
  | n + 1, c, du, oF, fi, nx, pv, hm, ky, lv, I, hinv, hc, hn => by
    have hT := I.2.1.1
    have fin : pc_ct (fun s => decide (hm (32 + s) = some 32 ∧ ky (32 + s) ≤ nw)) 16 = 0 → post (nI c) (pc_X T M g wb nw ba ef du ho oF sn dp fi nx pv hm ky lv) := by
      intro hz
      have e : c = C := by omega
      rw [e]
      refine K _ _ _ _ _ _ _ _ I (fun s hs => ?_)
      have h1 := of_decide_eq_false (pc_ct_z hz s hs)
      obtain ⟨h2, h3⟩ := hinv s hs
      refine ⟨fun hx => ?_, fun hx => ?_, h3⟩
      · rcases h2 with ⟨a, b⟩ | ⟨_, a, _⟩
        · rw [b, h3] at h1; exact absurd hx h1
        · exact a
      · rcases h2 with z | ⟨a, _⟩
        · exact z
        · exact absurd a hx
    by_cases hc16 : 16 ≤ c
    · exact br_t (nI_le (a := 16) hc16 (by omega)) (fin (by omega))
    refine br_f (nI_ge (b := 16) (by omega) (by decide)) ?_
    cases hf : fi 32 with
    | none =>
      refine br_t pc_on (fin (pc_ct_0 (fun s hs => decide_eq_false (fun z => ?_))))
      exact pc_L_none I.1 (by decide) hf (32 + s) (by omega) z.1
    | some x =>
      obtain ⟨x48, xh, xmin⟩ := pc_L_some I.1 (by decide) hf
      have xc := pc_L_cls I.1 x48 xh
      obtain ⟨t, rfl, ht⟩ : ∃ t, x = 32 + t ∧ t < 16 := ⟨x - 32, by omega, by omega⟩
      have q4 := I.2.2.1.2.2.2 t ht (by rw [xh]; exact fun z => nomatch z)
      have cx : (pc_o (some (32 + t))).toNatClampNeg = 32 + t := nI_clamp (by omega)
      refine br_f (pc_os (by omega)) ⟨vp_in_nI x48 (by decide), ?_⟩
      rw [cx]
      by_cases hlt : nw < ky (32 + t)
      · refine br_t ((pk_lLT (by omega) (by omega)).mpr hlt) (fin (pc_ct_0 (fun s hs => decide_eq_false (fun z => ?_))))
        have := xmin (32 + s) (by omega) z.1
        have := z.2
        omega
      · refine br_f (fun z => hlt ((pk_lLT (by omega) (by omega)).mp z)) ?_
        have e32 : pc_o (some (32 + t)) - 32 = nI t := by
          show nI (32 + t) - nI 32 = nI t
          rw [pk_sub (by omega)]
          exact congrArg nI (by omega)
        rw [e32]
        cases htm : hm t with
        | none => exact absurd htm q4.1
        | some m =>
          refine px_endWait I ht htm (fun du' oF' fi' nx' pv' hm' ky' lv' J hk => nm_r (nI_1 c) (nm_r (e' := pc_o (fi' 32)) rfl ?_))
          have hh : ∀ s, s < 16 → s ≠ t → hm' s = hm s ∧ hm' (32 + s) = hm (32 + s) := fun s hs q => by
            rw [(hk s (Or.inl hs)).1, (hk _ (Or.inr (by omega))).1, pc_un (by omega), pc_un q, pc_un (by omega), pc_un (by omega)]
            exact ⟨rfl, rfl⟩
          have hht : hm' t = none ∧ hm' (32 + t) = none := by
            rw [(hk t (Or.inl ht)).1, (hk _ (Or.inr (by omega))).1, pc_un (by omega), pc_us, pc_us]
            exact ⟨rfl, rfl⟩
          have hky : ∀ s, ky' (32 + s) = ky (32 + s) := fun s => (hk _ (Or.inr (by omega))).2
          have hct : pc_ct (fun s => decide (hm (32 + s) = some 32 ∧ ky (32 + s) ≤ nw)) 16 = pc_ct (fun s => decide (s < 16 ∧ hm' (32 + s) = some 32 ∧ ky' (32 + s) ≤ nw)) 16 + 1 := by
            rw [pc_ct_c (p := fun s => decide (hm (32 + s) = some 32 ∧ ky (32 + s) ≤ nw)) (q := fun s => decide (s < 16 ∧ hm (32 + s) = some 32 ∧ ky (32 + s) ≤ nw)) (fun i hi => decide_eq_decide.mpr ⟨fun z => ⟨hi, z⟩, fun z => z.2⟩)]
            refine pc_ct_f (k := t) ?_ ?_ ?_ ht
            · exact decide_eq_true ⟨ht, xh, by omega⟩
            · exact decide_eq_false (fun z => by have := z.2.1; rw [hht.2] at this; exact nomatch this)
            · intro i hi
              apply decide_eq_decide.mpr
              constructor
              · rintro ⟨a, b, d⟩
                exact ⟨a, (hh i a hi).2.trans b, by rw [hky]; exact d⟩
              · rintro ⟨a, b, d⟩
                exact ⟨a, (hh i a hi).2.symm.trans b, by rw [← hky]; exact d⟩
          have hct2 : pc_ct (fun s => decide (s < 16 ∧ hm' (32 + s) = some 32 ∧ ky' (32 + s) ≤ nw)) 16 = pc_ct (fun s => decide (hm' (32 + s) = some 32 ∧ ky' (32 + s) ≤ nw)) 16 := pc_ct_c (fun i hi => decide_eq_decide.mpr ⟨fun z => z.2, fun z => ⟨hi, z⟩⟩)
          refine px_tick31 hC hnw K n (c + 1) du' oF' fi' nx' pv' hm' ky' lv' J ?_ (by omega) (by omega)
          intro s hs
          obtain ⟨h2, h3⟩ := hinv s hs
          refine ⟨?_, by rw [hky]; exact h3⟩
          by_cases q : s = t
          · subst q
            refine Or.inr ⟨?_, hht⟩
            rcases h2 with ⟨a, b⟩ | ⟨a, _⟩
            · exact ⟨b.symm.trans xh, by omega⟩
            · exact a
          · rw [(hh s hs q).1, (hh s hs q).2]
            exact h2
def pc_tx (wa : Nat → Option Nat) (lf : Nat → Nat) (w : Nat) (s : Nat) : Prop := wa s ≠ none ∧ 0 < lf s ∧ lf s ≤ w
theorem py_tick26 {post : Int32 → SY → Prop} {w : Nat} (p : Nat → Bool) (hp : ∀ s, s < 16 → (p s = true ↔ pc_tx wa lf w s)) (hT : T ≤ 16) (hw60 : w ≤ 60) (hw : ∀ x m, x < 16 → wa x = some m → m < 16) (hl : ∀ x, x < 16 → lf x ≤ 60)
    (K : ∀ wa' lf', (∀ j, T ≤ j → wa' j = wa j ∧ lf' j = lf j) → (∀ j, j < T → lf' j ≤ lf j ∧ (pc_tx wa lf w j → wa' j = none) ∧ (¬ pc_tx wa lf w j → wa' j = wa j ∧ (wa j ≠ none → lf' j = lf j - w))) → post (nI (pc_ct p T)) (pc_Y T M g ck ba ef ho wa' lf' bg fr)) :
    ∀ (d i n : Nat) (wa' : Nat → Option Nat) (lf' : Nat → Nat), i + d = T → d < n → (∀ j, i ≤ j → wa' j = wa j ∧ lf' j = lf j) → (∀ j, j < i → lf' j ≤ lf j ∧ (pc_tx wa lf w j → wa' j = none) ∧ (¬ pc_tx wa lf w j → wa' j = wa j ∧ (wa j ≠ none → lf' j = lf j - w))) →
      wY_tick_26 post (nI w) (nI T) (nI M) (nI g) (lN ck) n (nI (pc_ct p i)) (nI i) (fun j => nI (ba j)) (fun j => nI (ef j)) (fun j => pc_o (ho j)) (fun j => pc_o (wa' j)) (fun j => nI (lf' j)) (fun j => lN (bg j)) (fun j => nI (fr j))
  | 0, i, n + 1, wa', lf', h, _, h1, h2 => by
    have e : i = T := by omega
    subst e
    exact br_t (nI_le (Nat.le_refl _) (by omega)) (K wa' lf' h1 h2)
  | d + 1, i, n + 1, wa', lf', h, hn, h1, h2 => by
    have hi : i < 16 := by omega
    have ii : vp_in (nI i) 16 := vp_in_nI hi (by decide)
    have ci : (nI i).toNatClampNeg = i := nI_clamp (by omega)
    have ei : pc_ct p (i + 1) = pc_ct p i + (if p i = true then 1 else 0) := rfl
    obtain ⟨ew, el⟩ := h1 i (Nat.le_refl _)
    have hli := hl i hi
    have same : ¬ pc_tx wa lf w i → (wa i ≠ none → lf i = lf i - w) → wY_tick_26 post (nI w) (nI T) (nI M) (nI g) (lN ck) n (nI (pc_ct p i)) (nI (i + 1)) (fun j => nI (ba j)) (fun j => nI (ef j)) (fun j => pc_o (ho j)) (fun j => pc_o (wa' j)) (fun j => nI (lf' j)) (fun j => lN (bg j)) (fun j => nI (fr j)) := by
      intro hx hx2
      have ih := py_tick26 p hp hT hw60 hw hl K d (i + 1) n wa' lf' (by omega) (by omega) (fun j hj => h1 j (by omega)) (fun j hj => by
        by_cases q : j = i
        · subst q
          rw [ew, el]
          exact ⟨Nat.le_refl _, fun z => absurd z hx, fun _ => ⟨rfl, hx2⟩⟩
        · exact h2 j (by omega))
      have pf : p i = false := by
        cases c : p i
        · rfl
        · exact absurd ((hp i hi).mp c) hx
      rw [ei, pf] at ih
      exact ih
    refine br_f (nI_ge (by omega) (by omega)) ⟨ii, ?_⟩
    rw [ci]
    cases c : wa i with
    | none =>
      exact br_t (by show pc_o (wa' i) < 0; rw [ew, c]; exact pc_on) (nm_r (nI_1 i) (same (fun z => z.1 c) (fun z => absurd c z)))
    | some m =>
      have hm16 := hw i m hi c
      have hne : wa i ≠ none := by rw [c]; exact fun z => nomatch z
      refine br_f (by show ¬ pc_o (wa' i) < 0; rw [ew, c]; exact pc_os (by omega)) ⟨ii, ?_⟩
      rcases Nat.eq_zero_or_pos (lf i) with z | z
      · exact br_t (by show nI (lf' i) ≤ 0; rw [el, z]; decide) (nm_r (nI_1 i) (same (fun y => by have := y.2.1; omega) (fun _ => by omega)))
      · refine br_f (by show ¬ nI (lf' i) ≤ 0; rw [el]; exact nI_nle z (by omega)) ⟨ii, ?_⟩
        by_cases f : w < lf i
        · have hx : ¬ pc_tx wa lf w i := fun y => by have := y.2.2; omega
          refine br_t (by show nI w < nI (lf' i); rw [el]; exact nI_lt f (by omega)) ⟨ii, ii, nm_r (e' := fun j => nI (pc_u lf' i (lf i - w) j)) ?_ (nm_r (nI_1 i) ?_)⟩
          · rw [show (fun j => nI (lf' j)) i - nI w = nI (lf i - w) from by show nI (lf' i) - nI w = _; rw [el, pk_sub (by omega)]]
            exact pc_uI lf' i _
          · have ih := py_tick26 p hp hT hw60 hw hl K d (i + 1) n wa' (pc_u lf' i (lf i - w)) (by omega) (by omega) (fun j hj => by rw [pc_un (by omega)]; exact h1 j (by omega)) (fun j hj => by
              by_cases q : j = i
              · subst q
                rw [ew, pc_us]
                exact ⟨by omega, fun y => absurd y hx, fun _ => ⟨rfl, fun _ => rfl⟩⟩
              · rw [pc_un q]; exact h2 j (by omega))
            have pf : p i = false := by
              cases c : p i
              · rfl
              · exact absurd ((hp i hi).mp c) hx
            rw [ei, pf] at ih
            exact ih
        · have hx : pc_tx wa lf w i := ⟨hne, z, by omega⟩
          refine br_f (by show ¬ nI w < nI (lf' i); rw [el]; exact nI_nlt (by omega) (by omega)) ⟨ii, nm_r (pc_uO wa' i none) (nm_r (nI_1 _) (nm_r (nI_1 i) ?_))⟩
          have ih := py_tick26 p hp hT hw60 hw hl K d (i + 1) n (pc_u wa' i none) lf' (by omega) (by omega) (fun j hj => by rw [pc_un (by omega)]; exact h1 j (by omega)) (fun j hj => by
            by_cases q : j = i
            · subst q
              rw [el, pc_us]
              exact ⟨Nat.le_refl _, fun _ => rfl, fun y => absurd hx y⟩
            · rw [pc_un q]; exact h2 j (by omega))
          rw [ei, (hp i hi).mpr hx] at ih
          exact ih
end
theorem i_vc_tick {k : Nat} {u : SX} {v : SY} (I : i_Rel k u v) (hk : k + 4 ≤ 2051) (v1 : Int32) : wpX_tick (fun r u' => wpY_tick (fun r' v' => r' = r ∧ i_Rel (k + 4) u' v') v v1) u v1 := by
  refine pr_el (P := fun u v => wpX_tick (fun r u' => wpY_tick (fun r' v' => r' = r ∧ i_Rel (k + 4) u' v') v v1) u v1) ?_ I
  intro T M g wb nw ba ef du ho oF sn dp fi nx pv hm ky lv wa lf bg fr H
  have hT := pr_T H
  have hb := pc_cl_b (v := v1) (lo := 0) (hi := 60) (by decide) (by decide)
  have hnw := H.2.1.2.2.2.2
  have ex : ∀ s, s < 16 → ((hm (32 + s) = some 32 ∧ ky (32 + s) ≤ nw + pc_cl v1 0 60) ↔ pc_tx wa lf (pc_cl v1 0 60) s) := by
    intro s hs
    unfold pc_tx
    rw [H.2.2.1 s hs]
    cases c : hm s with
    | none =>
      constructor
      · rintro ⟨a, _⟩
        exact absurd c (H.1.2.2.1.2.2.2 s hs (by rw [a]; exact fun z => nomatch z)).1
      · rintro ⟨a, _⟩
        exact absurd rfl a
    | some m =>
      have hl := H.2.2.2.2.2.1 s hs (by rw [c]; exact fun z => nomatch z)
      rcases Nat.eq_zero_or_pos (lf s) with z | z
      · rw [hl.1 z]
        exact ⟨fun y => (nomatch y.1), fun y => by have := y.2.1; omega⟩
      · rw [(hl.2 z).1, (hl.2 z).2]
        exact ⟨fun y => ⟨fun q => (nomatch q), z, by have := y.2; omega⟩, fun y => ⟨rfl, by have := y.2.2; omega⟩⟩
  unfold wpX_tick
  refine px_clamp (lo := 0) (hi := 60) (by decide) (by decide) ?_
  refine nm_r (e' := lN (nw + pc_cl v1 0 60)) ?_ (nm_r (e' := pc_o (fi 32)) rfl ?_)
  · rw [nI_l (by omega), lN_add]
  refine ⟨17, px_tick31 (hm0 := hm) (ky0 := ky) (C := pc_ct (fun s => decide (hm (32 + s) = some 32 ∧ ky (32 + s) ≤ nw + pc_cl v1 0 60)) 16) (pc_ct_le _ _) (by omega) ?_ 17 0 du oF fi nx pv hm ky lv H.1 (fun s _ => ⟨Or.inl ⟨rfl, rfl⟩, rfl⟩) (by omega) (by have := pc_ct_le (fun s => decide (hm (32 + s) = some 32 ∧ ky (32 + s) ≤ nw + pc_cl v1 0 60)) 16; omega)⟩
  intro du' oF' fi' nx' pv' hm' ky' lv' J hJ
  have hTn : ∀ s, T ≤ s → s < 16 → hm s = none := fun s h1 h2 => by
    cases c : hm s with
    | none => rfl
    | some m => have := (pi_m16 H.1 h2 c).2.1; omega
  have ecount : pc_ct (fun s => decide (hm (32 + s) = some 32 ∧ ky (32 + s) ≤ nw + pc_cl v1 0 60)) T = pc_ct (fun s => decide (hm (32 + s) = some 32 ∧ ky (32 + s) ≤ nw + pc_cl v1 0 60)) 16 := by
    refine (pc_ct_ext hT (fun s h1 h2 => decide_eq_false (fun z => ?_))).symm
    exact absurd (hTn s h1 h2) (H.1.2.2.1.2.2.2 s h2 (by rw [z.1]; exact fun y => nomatch y)).1
  unfold wpY_tick
  refine pc_cl3 (P := fun c => ∃ n26 : Nat, wY_tick_26 _ c (nI T) (nI M) (nI g) (lN wb) n26 0 0 (fun j => nI (ba j)) (fun j => nI (ef j)) (fun j => pc_o (ho j)) (fun j => pc_o (wa j)) (fun j => nI (lf j)) (fun j => lN (bg j)) (fun j => nI (fr j))) (lo := 0) (hi := 60) (by decide) (by decide) ?_
  refine ⟨T + 1, py_tick26 (fun s => decide (hm (32 + s) = some 32 ∧ ky (32 + s) ≤ nw + pc_cl v1 0 60)) (fun s hs => by rw [decide_eq_true_iff]; exact ex s hs) hT hb.2 (pr_hw H) (fun x hx => (H.2.2.2.1 x hx).2.2) (fun wa' lf' y1 y2 => ⟨by rw [ecount], pr_in ?_⟩) T 0 (T + 1) wa lf (by omega) (by omega) (fun _ _ => ⟨rfl, rfl⟩) (fun j hj => by omega)⟩
  obtain ⟨i0, ⟨i1, i2, i3, i4, i5⟩, i6, i7, i8, i9, i10⟩ := H
  have hsub : ∀ s m, s < 16 → hm' s = some m → hm s = some m ∧ hm' (32 + s) = hm (32 + s) ∧ ¬ pc_tx wa lf (pc_cl v1 0 60) s := fun s m hs h => by
    obtain ⟨j1, j2, j3⟩ := hJ s hs
    by_cases q : hm (32 + s) = some 32 ∧ ky (32 + s) ≤ nw + pc_cl v1 0 60
    · rw [j1 q] at h; exact nomatch h
    · have := j2 q
      rw [this.1] at h
      exact ⟨h, this.2, fun z => q ((ex s hs).mpr z)⟩
  refine ⟨J, ⟨i1, i2, i3, by omega, by omega⟩, ?_, ?_, ?_, ?_, ?_⟩
  · intro s hs
    obtain ⟨j1, j2, j3⟩ := hJ s hs
    rcases Nat.lt_or_ge s T with c | c
    · obtain ⟨z1, z2, z3⟩ := y2 s c
      by_cases q : pc_tx wa lf (pc_cl v1 0 60) s
      · rw [z2 q, j1 ((ex s hs).mpr q)]
      · rw [(z3 q).1, (j2 (fun z => q ((ex s hs).mp z))).1, i6 s hs]
    · rw [(y1 s c).1, i6 s hs, hTn s c hs]
      by_cases q : hm (32 + s) = some 32 ∧ ky (32 + s) ≤ nw + pc_cl v1 0 60
      · rw [j1 q]
      · rw [(j2 q).1, hTn s c hs]
  · intro s hs
    have := i7 s hs
    rcases Nat.lt_or_ge s T with c | c
    · have := (y2 s c).1
      omega
    · rw [(y1 s c).2]; omega
  · intro s hs z
    cases c : hm' s with
    | none => exact absurd c z
    | some m =>
      exact i8 s hs (by rw [(hsub s m hs c).1]; exact fun y => nomatch y)
  · intro s hs z
    cases c : hm' s with
    | none => exact absurd c z
    | some m =>
      obtain ⟨a1, a2, a3⟩ := hsub s m hs c
      have hsT := (pi_m16 i0 hs a1).2.1
      have hne : hm s ≠ none := by rw [a1]; exact fun y => nomatch y
      have hnw2 : wa s ≠ none := by rw [i6 s hs]; exact hne
      have hl := i9 s hs hne
      have e1 := ((y2 s hsT).2.2 a3).2 hnw2
      have e2 := (hJ s hs).2.2
      rw [a2, e2, e1]
      unfold pc_tx at a3
      constructor
      · intro y
        apply hl.1
        apply Classical.byContradiction
        intro w
        exact a3 ⟨hnw2, by omega, by omega⟩
      · intro y
        have := hl.2 (by omega)
        refine ⟨this.1, ?_⟩
        rw [this.2]; omega
  · refine pc_ac1 i10 (fun s o hs hb => ?_)
    obtain ⟨m, b1, b2⟩ := pc_bk_s hb
    exact pc_bk_m (hsub s m (by omega) b1).1 b2
end
section
/-! own rows: settle, the pure side and the reference -/
noncomputable def pc_rc (f : Nat → Option Nat) (x s : Nat) : Bool := @decide (∃ l, pc_Ch f (f s) l ∧ x ∈ l) (Classical.propDecidable _)
theorem pc_rc_t {f : Nat → Option Nat} {x s : Nat} : pc_rc f x s = true ↔ ∃ l, pc_Ch f (f s) l ∧ x ∈ l := by
  unfold pc_rc
  exact @decide_eq_true_iff _ (Classical.propDecidable _)
noncomputable def pc_F (T : Nat) (ba : Nat → Nat) (f : Nat → Option Nat) (x : Nat) : Nat := pc_mx (pc_rc f x) ba (ba x) T
def pc_FP (T : Nat) (ba : Nat → Nat) (f : Nat → Option Nat) (F : Nat → Nat) : Prop := ∀ x, x < T → ba x ≤ F x ∧ (∀ y, y < T → f y = some x → F y ≤ F x) ∧ (F x = ba x ∨ ∃ y, y < T ∧ f y = some x ∧ F x ≤ F y)
/-- the owners' values after the first i chains -/
def pc_FI (T i : Nat) (ba : Nat → Nat) (f : Nat → Option Nat) (F : Nat → Nat) : Prop :=
  ∀ x, x < T → ba x ≤ F x ∧ (∀ s, s < i → (∃ l, pc_Ch f (f s) l ∧ x ∈ l) → ba s ≤ F x) ∧ (F x = ba x ∨ ∃ s, s < i ∧ (∃ l, pc_Ch f (f s) l ∧ x ∈ l) ∧ F x ≤ ba s)
theorem pc_F_fi (T : Nat) (ba : Nat → Nat) (f : Nat → Option Nat) : pc_FI T T ba f (pc_F T ba f) := by
  intro x _
  obtain ⟨h1, h2, h3⟩ := pc_mx_b (p := pc_rc f x) (f := ba) (b := ba x) T
  refine ⟨h1, fun s hs h => h2 s hs (pc_rc_t.mpr h), ?_⟩
  rcases h3 with z | ⟨s, hs, hp, z⟩
  · exact Or.inl z
  · exact Or.inr ⟨s, hs, pc_rc_t.mp hp, Nat.le_of_eq z⟩
theorem pc_fi_u {T : Nat} {ba : Nat → Nat} {f : Nat → Option Nat} {F G : Nat → Nat} (h : pc_FI T T ba f F) (h' : pc_FI T T ba f G) {x : Nat} (hx : x < T) : F x = G x := by
  obtain ⟨a1, a2, a3⟩ := h x hx
  obtain ⟨b1, b2, b3⟩ := h' x hx
  exact pc_maxu (T := T) (P := fun s => ∃ l, pc_Ch f (f s) l ∧ x ∈ l) (f := ba) (b := ba x) a1 a2 a3 b1 b2 b3
theorem pc_F_fp {T : Nat} {ba : Nat → Nat} {f : Nat → Option Nat} (hA : pc_AC T f) : pc_FP T ba f (pc_F T ba f) := by
  have hF := pc_F_fi T ba f
  have hlt : ∀ t o, t < T → f t = some o → o < T := by
    obtain ⟨r, hr⟩ := hA
    exact fun t o h1 h2 => (hr t o h1 h2).1
  intro x hx
  obtain ⟨h1, h2, h3⟩ := hF x hx
  refine ⟨h1, ?_, ?_⟩
  · intro y hy hyx
    obtain ⟨k1, k2, k3⟩ := hF y hy
    rcases k3 with z | ⟨s, hs, ⟨l, c1, c2⟩, z⟩
    · rw [z]
      obtain ⟨l, c1, _, _, _⟩ := pc_ch_ex hA (f y) (fun o ho => hlt y o hy ho)
      refine h2 y hy ⟨l, c1, ?_⟩
      rw [hyx] at c1
      cases l with
      | nil => exact nomatch c1
      | cons w q =>
        rw [Option.some.inj c1.1]
        exact List.mem_cons_self
    · exact Nat.le_trans z (h2 s hs ⟨l, c1, pc_ch_next c1 c2 hyx⟩)
  · rcases h3 with z | ⟨s, hs, ⟨l, c1, c2⟩, z⟩
    · exact Or.inl z
    · refine Or.inr ?_
      have hl : ∀ y ∈ l, y < T := by
        obtain ⟨l', d1, _, d3, _⟩ := pc_ch_ex hA (f s) (fun o ho => hlt s o hs ho)
        rw [pc_ch_u c1 d1]; exact d3
      rcases pc_ch_prev c1 c2 with e | ⟨y, e1, e2⟩
      · exact ⟨s, hs, e, Nat.le_trans z (hF s hs).1⟩
      · exact ⟨y, hl y e1, e2, Nat.le_trans z ((hF y (hl y e1)).2.1 s hs ⟨l, c1, e1⟩)⟩
/-- deepest first: where all of depth d or more are settled -/
theorem pc_deep {T d : Nat} {ba ef du F dp : Nat → Nat} {f : Nat → Option Nat} (hF : pc_FP T ba f F)
    (hd : ∀ t, t < T → ba t ≤ du t ∧ (∀ y, y < T → f y = some t → ef y ≤ du t) ∧ (du t = ba t ∨ ∃ y, y < T ∧ f y = some t ∧ du t ≤ ef y))
    (hdp : ∀ y t, y < T → f y = some t → dp y = dp t + 1) (hb : ∀ t, t < T → dp t ≤ 16) (hs : ∀ s, s < T → d ≤ dp s → du s = ef s) :
    (∀ s, s < T → d ≤ dp s → ef s = F s) ∧ (∀ t, t < T → d ≤ dp t + 1 → du t = F t) := by
  have one : ∀ t, t < T → (∀ y, y < T → f y = some t → ef y = F y) → du t = F t := by
    intro t ht hy
    obtain ⟨a1, a2, a3⟩ := hd t ht
    obtain ⟨b1, b2, b3⟩ := hF t ht
    refine pc_maxu (T := T) (P := fun y => f y = some t) (f := ef) (b := ba t) a1 a2 a3 b1 (fun y h1 h2 => ?_) ?_
    · rw [hy y h1 h2]; exact b2 y h1 h2
    · rcases b3 with z | ⟨y, h1, h2, z⟩
      · exact Or.inl z
      · exact Or.inr ⟨y, h1, h2, by rw [hy y h1 h2]; exact z⟩
  have main : ∀ N s, s < T → d ≤ dp s → 17 - dp s ≤ N → ef s = F s := by
    intro N
    induction N with
    | zero => intro s h1 _ h3; have := hb s h1; omega
    | succ N ih =>
      intro s h1 h2 h3
      rw [← hs s h1 h2]
      refine one s h1 (fun y hy e => ih y hy ?_ ?_)
      · rw [hdp y s hy e]; omega
      · rw [hdp y s hy e]; omega
  refine ⟨fun s h1 h2 => main 17 s h1 h2 (by omega), fun t ht h => one t ht (fun y hy e => main 17 y hy ?_ (by omega))⟩
  rw [hdp y t hy e]; exact h
section
variable {T M g wb nw : Nat} {ba ef du sn dp ky : Nat → Nat} {ho oF fi nx pv hm lv : Nat → Option Nat} {ck : Nat} {lf bg fr : Nat → Nat} {wa : Nat → Option Nat} {k : Nat}
theorem py_set46 {post : Int32 → SY → Prop} {J : Int32 → (Nat → Int32) → (Nat → Int32) → (Nat → Int32) → (Nat → Int32) → (Nat → Int32) → (Nat → Int64) → (Nat → Int32) → Prop} {s : Nat} (hT : T ≤ 16) (hs : s < 16) (hw : ∀ x m, x < 16 → wa x = some m → m < 16) (hba : ba s < 32) :
    ∀ (l : List Nat) (x : Option Nat) (i n : Nat) (fr : Nat → Nat), pc_Ch (pc_bk wa ho) x l → (∀ y ∈ l, y < T) → i + l.length ≤ T → l.length < n → (∀ z, z < T → fr z < 32) →
      (∀ fr' : Nat → Nat, (∀ z, z < T → fr' z < 32) → (∀ z, fr z ≤ fr' z ∧ (z ∈ l → ba s ≤ fr' z) ∧ (fr' z = fr z ∨ (z ∈ l ∧ fr' z = ba s))) → J (nI (s + 1)) (fun j => nI (ba j)) (fun j => nI (ef j)) (fun j => pc_o (ho j)) (fun j => pc_o (wa j)) (fun j => nI (lf j)) (fun j => lN (bg j)) (fun j => nI (fr' j))) → wY_settle_46 post J (nI s) (nI T) (nI M) (nI g) (lN ck) n (pc_o x) (nI i) (fun j => nI (ba j)) (fun j => nI (ef j)) (fun j => pc_o (ho j)) (fun j => pc_o (wa j)) (fun j => nI (lf j)) (fun j => lN (bg j)) (fun j => nI (fr j))
  | [], x, i, n + 1, fr, h, _, _, _, hf, K => by
    have e : x = none := h
    subst e
    have hx := K fr hf (fun z => ⟨Nat.le_refl _, fun q => (nomatch q), Or.inl rfl⟩)
    exact br_c (fun _ => nm_r (nI_1 s) hx) (fun _ => br_t pc_on (nm_r (nI_1 s) hx))
  | y :: r, x, i, n + 1, fr, h, hb, hl, hn, hf, K => by
    have e : x = some y := h.1
    subst e
    have hyT := hb y List.mem_cons_self
    have hy : y < 16 := by omega
    rw [List.length_cons] at hl hn
    have cs : (nI s).toNatClampNeg = s := nI_clamp (by omega)
    have cy : (pc_o (some y)).toNatClampNeg = y := nI_clamp (by omega)
    have is' : vp_in (nI s) 16 := vp_in_nI hs (by decide)
    have iy : vp_in (pc_o (some y)) 16 := vp_in_nI hy (by decide)
    have hfy := hf y hyT
    refine br_f (nI_ge (by omega) (by omega)) (br_f (pc_os (by omega)) ⟨is', iy, ?_⟩)
    rw [cs, cy]
    by_cases c : ba s ≤ fr y
    · refine br_t ((nI_leI (by omega) (by omega)).mpr c) ?_
      unfold wY_settle_85
      refine py_blocker hy (hw y · hy) (nm_r (nI_1 i) ?_)
      refine py_set46 hT hs hw hba r _ (i + 1) n fr h.2 (fun z hz => hb z (List.mem_cons_of_mem _ hz)) (by omega) (by omega) hf (fun fr' g1 g2 => K fr' g1 (fun z => ?_))
      obtain ⟨a1, a2, a3⟩ := g2 z
      refine ⟨a1, fun q => ?_, a3.elim Or.inl (fun w => Or.inr ⟨List.mem_cons_of_mem _ w.1, w.2⟩)⟩
      rcases List.mem_cons.mp q with q | q
      · rw [q] at a1 ⊢; omega
      · exact a2 q
    · refine br_f (fun z => c ((nI_leI (by omega) (by omega)).mp z)) ⟨is', iy, nm_r (pc_uI fr y (ba s)) ?_⟩
      unfold wY_settle_85
      refine py_blocker hy (hw y · hy) (nm_r (nI_1 i) ?_)
      refine py_set46 hT hs hw hba r _ (i + 1) n (pc_u fr y (ba s)) h.2 (fun z hz => hb z (List.mem_cons_of_mem _ hz)) (by omega) (by omega) (fun z hz => ?_) (fun fr' g1 g2 => K fr' g1 (fun z => ?_))
      · by_cases q : z = y
        · rw [q, pc_us]; exact hba
        · rw [pc_un q]; exact hf z hz
      · obtain ⟨a1, a2, a3⟩ := g2 z
        by_cases q : z = y
        · rw [q, pc_us] at a1 a3
          rw [q]
          refine ⟨by omega, fun _ => a1, Or.inr ⟨List.mem_cons_self, ?_⟩⟩
          rcases a3 with w | w
          · exact w
          · exact w.2
        · rw [pc_un q] at a1 a3
          refine ⟨a1, fun w => ?_, a3.elim Or.inl (fun w => Or.inr ⟨List.mem_cons_of_mem _ w.1, w.2⟩)⟩
          rcases List.mem_cons.mp w with w | w
          · exact absurd w q
          · exact a2 w
theorem py_set107 {post : Int32 → SY → Prop} (hT : T ≤ 16) (he : ∀ x, x < 16 → ef x < 32) (hf : ∀ x, x < T → fr x < 32)
    (K : ∀ ef' : Nat → Nat, (∀ j, j < T → ef' j = fr j) → (∀ j, T ≤ j → ef' j = ef j) → post (nI (pc_ct (fun j => decide (ef j ≠ fr j)) T)) (pc_Y T M g ck ba ef' ho wa lf bg fr)) :
    ∀ (d i n : Nat) (ef' : Nat → Nat), i + d = T → d < n → (∀ j, j < i → ef' j = fr j) → (∀ j, i ≤ j → ef' j = ef j) → wY_settle_107 post (nI T) (nI M) (nI g) (lN ck) n (nI (pc_ct (fun j => decide (ef j ≠ fr j)) i)) (nI i) (fun j => nI (ba j)) (fun j => nI (ef' j)) (fun j => pc_o (ho j)) (fun j => pc_o (wa j)) (fun j => nI (lf j)) (fun j => lN (bg j)) (fun j => nI (fr j))
  | 0, i, n + 1, ef', h, _, h1, h2 => by
    have e : i = T := by omega
    subst e
    exact br_t (nI_le (Nat.le_refl _) (by omega)) (K ef' h1 h2)
  | d + 1, i, n + 1, ef', h, hn, h1, h2 => by
    have hi : i < 16 := by omega
    have ii : vp_in (nI i) 16 := vp_in_nI hi (by decide)
    have ci : (nI i).toNatClampNeg = i := nI_clamp (by omega)
    have ei : pc_ct (fun j => decide (ef j ≠ fr j)) (i + 1) = pc_ct (fun j => decide (ef j ≠ fr j)) i + (if decide (ef i ≠ fr i) = true then 1 else 0) := rfl
    have hei := he i hi
    have hfi := hf i (by omega)
    have ew := h2 i (Nat.le_refl _)
    have ih := py_set107 hT he hf K d (i + 1) n (pc_u ef' i (fr i)) (by omega) (by omega) (fun j hj => by
      by_cases q : j = i
      · rw [q, pc_us]
      · rw [pc_un q]; exact h1 j (by omega)) (fun j hj => by rw [pc_un (by omega)]; exact h2 j (by omega))
    refine br_f (nI_ge (by omega) (by omega)) ⟨ii, ii, ?_⟩
    rw [ci]
    by_cases c : ef i = fr i
    · rw [ei, decide_eq_false (fun z => z c)] at ih
      refine br_t (by show nI (ef' i) = nI (fr i); rw [ew, c]) ?_
      unfold wY_settle_133
      rw [ci]
      exact ⟨ii, ii, nm_r (pc_uI ef' i (fr i)) (nm_r (nI_1 i) ih)⟩
    · rw [ei, decide_eq_true c] at ih
      refine br_f (by show ¬ nI (ef' i) = nI (fr i); rw [ew]; exact fun z => c ((nI_eq (by omega) (by omega)).mp z)) (nm_r (nI_1 _) ?_)
      unfold wY_settle_133
      rw [ci]
      exact ⟨ii, ii, nm_r (pc_uI ef' i (fr i)) (nm_r (nI_1 i) ih)⟩
theorem py_set30 {post : Int32 → SY → Prop} (hT : T ≤ 16) (hw : ∀ x m, x < 16 → wa x = some m → m < 16) (hA : pc_AC T (pc_bk wa ho)) (hba : ∀ x, x < 16 → ba x < 32)
    (K : ∀ fr' : Nat → Nat, (∀ x, x < T → fr' x < 32) → pc_FI T T ba (pc_bk wa ho) fr' → ∃ n, wY_settle_107 post (nI T) (nI M) (nI g) (lN ck) n 0 0 (fun j => nI (ba j)) (fun j => nI (ef j)) (fun j => pc_o (ho j)) (fun j => pc_o (wa j)) (fun j => nI (lf j)) (fun j => lN (bg j)) (fun j => nI (fr' j))) :
    ∀ (d i n : Nat) (fr : Nat → Nat), i + d = T → d < n → (∀ x, x < T → fr x < 32) → pc_FI T i ba (pc_bk wa ho) fr → wY_settle_30 post (nI T) (nI M) (nI g) (lN ck) n (nI i) (fun j => nI (ba j)) (fun j => nI (ef j)) (fun j => pc_o (ho j)) (fun j => pc_o (wa j)) (fun j => nI (lf j)) (fun j => lN (bg j)) (fun j => nI (fr j))
  | 0, i, n + 1, fr, h, _, h1, h2 => by
    have e : i = T := by omega
    subst e
    exact br_t (nI_le (Nat.le_refl _) (by omega)) (K fr h1 h2)
  | d + 1, i, n + 1, fr, h, hn, h1, h2 => by
    have hi : i < 16 := by omega
    have hlt : ∀ t o, t < T → pc_bk wa ho t = some o → o < T := by
      obtain ⟨r, hr⟩ := hA
      exact fun t o h1 h2 => (hr t o h1 h2).1
    obtain ⟨l, c1, _, c3, c4⟩ := pc_ch_ex hA (pc_bk wa ho i) (fun o ho' => hlt i o (by omega) ho')
    refine br_f (nI_ge (by omega) (by omega)) (py_blocker hi (hw i · hi) ⟨l.length + 1, ?_⟩)
    refine py_set46 hT hi hw (hba i hi) l _ 0 _ fr c1 c3 (by omega) (by omega) h1 (fun fr' g1 g2 => ?_)
    refine py_set30 hT hw hA hba K d (i + 1) n fr' (by omega) (by omega) g1 (fun x hx => ?_)
    obtain ⟨a1, a2, a3⟩ := g2 x
    obtain ⟨b1, b2, b3⟩ := h2 x hx
    refine ⟨by omega, fun s hs hl => ?_, ?_⟩
    · rcases Nat.lt_or_ge s i with q | q
      · exact Nat.le_trans (b2 s q hl) a1
      · have q' : s = i := by omega
        subst q'
        obtain ⟨l', d1, d2⟩ := hl
        rw [pc_ch_u d1 c1] at d2
        exact a2 d2
    · rcases a3 with z | ⟨z1, z2⟩
      · rw [z]
        rcases b3 with y | ⟨s, y1, y2, y3⟩
        · exact Or.inl y
        · exact Or.inr ⟨s, by omega, y2, y3⟩
      · exact Or.inr ⟨i, by omega, ⟨l, c1, z1⟩, by omega⟩
theorem py_set2 {post : Int32 → SY → Prop} (hT : T ≤ 16)
    (K : ∀ fr' : Nat → Nat, (∀ x, x < T → fr' x = ba x) → ∃ n, wY_settle_30 post (nI T) (nI M) (nI g) (lN ck) n 0 (fun j => nI (ba j)) (fun j => nI (ef j)) (fun j => pc_o (ho j)) (fun j => pc_o (wa j)) (fun j => nI (lf j)) (fun j => lN (bg j)) (fun j => nI (fr' j))) :
    ∀ (d i n : Nat) (fr : Nat → Nat), i + d = T → d < n → (∀ x, x < i → fr x = ba x) → wY_settle_2 post (nI T) (nI M) (nI g) (lN ck) n (nI i) (fun j => nI (ba j)) (fun j => nI (ef j)) (fun j => pc_o (ho j)) (fun j => pc_o (wa j)) (fun j => nI (lf j)) (fun j => lN (bg j)) (fun j => nI (fr j))
  | 0, i, n + 1, fr, h, _, h1 => by
    have e : i = T := by omega
    subst e
    exact br_t (nI_le (Nat.le_refl _) (by omega)) (K fr h1)
  | d + 1, i, n + 1, fr, h, hn, h1 => by
    have hi : i < 16 := by omega
    have ii : vp_in (nI i) 16 := vp_in_nI hi (by decide)
    refine br_f (nI_ge (by omega) (by omega)) ⟨ii, ii, ?_⟩
    rw [nI_clamp (by omega : i < 2 ^ 31)]
    refine nm_r (pc_uI fr i (ba i)) (nm_r (nI_1 i) ?_)
    refine py_set2 hT K d (i + 1) n (pc_u fr i (ba i)) (by omega) (by omega) (fun x hx => ?_)
    by_cases q : x = i
    · rw [q, pc_us]
    · rw [pc_un q]; exact h1 x (by omega)
theorem py_settle {post : Int32 → SY → Prop} (hT : T ≤ 16) (hw : ∀ x m, x < 16 → wa x = some m → m < 16) (hA : pc_AC T (pc_bk wa ho)) (hba : ∀ x, x < 16 → ba x < 32) (he : ∀ x, x < 16 → ef x < 32)
    (K : ∀ (ef' fr' : Nat → Nat), (∀ j, j < T → ef' j = pc_F T ba (pc_bk wa ho) j) → (∀ j, T ≤ j → ef' j = ef j) → post (nI (pc_ct (fun j => decide (ef j ≠ pc_F T ba (pc_bk wa ho) j)) T)) (pc_Y T M g ck ba ef' ho wa lf bg fr')) : wpY_settle post (pc_Y T M g ck ba ef ho wa lf bg fr) := by
  refine ⟨T + 1, py_set2 hT (fun fr1 h1 => ⟨T + 1, ?_⟩) T 0 (T + 1) fr (by omega) (by omega) (fun x hx => by omega)⟩
  refine py_set30 hT hw hA hba (fun fr2 h2 h3 => ⟨T + 1, ?_⟩) T 0 (T + 1) fr1 (by omega) (by omega) (fun x hx => by rw [h1 x hx]; exact hba x (by omega)) (fun x hx => ⟨by rw [h1 x hx]; exact Nat.le_refl _, fun s hs => by omega, Or.inl (h1 x hx)⟩)
  have e : ∀ x, x < T → fr2 x = pc_F T ba (pc_bk wa ho) x := fun x hx => pc_fi_u h3 (pc_F_fi T ba _) hx
  refine py_set107 hT he h2 (fun ef' g1 g2 => ?_) T 0 (T + 1) ef (by omega) (by omega) (fun j hj => by omega) (fun _ _ => rfl)
  have ec : pc_ct (fun j => decide (ef j ≠ fr2 j)) T = pc_ct (fun j => decide (ef j ≠ pc_F T ba (pc_bk wa ho) j)) T := pc_ct_c (fun j hj => by rw [e j hj])
  rw [ec]
  exact K ef' fr2 (fun j hj => by rw [g1 j hj, e j hj]) g2
end
end
section
/-! own rows: settle, the component -/
section
variable {T M g wb nw : Nat} {ba ef du sn dp ky : Nat → Nat} {ho oF fi nx pv hm lv : Nat → Option Nat} {ck : Nat} {lf bg fr : Nat → Nat} {wa : Nat → Option Nat} {k : Nat}
theorem px_md18 {post : SX → Prop} {J : Int32 → (Nat → Int32) → (Nat → Int32) → (Nat → Int32) → (Nat → Int32) → (Nat → Int32) → (Nat → Int64) → (Nat → Int32) → (Nat → Int32) → (Nat → Int32) → (Nat → Int32) → (Nat → Int32) → (Nat → Int64) → (Nat → Int32) → (Nat → Int32) → (Nat → Int32) → (Nat → Int32) → Prop} {t : Nat} (ht : t < 16) (hw : ∀ x m, x < 16 → hm x = some m → m < 16) :
    ∀ (l : List Nat) (x : Option Nat) (i n : Nat), pc_Ch (pc_bk hm ho) x l → (∀ y ∈ l, y < 16) → i + l.length ≤ 16 → l.length < n → J (nI (t + 1)) (fun j => nI (ba j)) (fun j => nI (ef j)) (fun j => nI (du j)) (fun j => pc_o (ho j)) (fun j => pc_o (oF j)) (fun j => lN (sn j)) (fun j => nI ((pc_u dp t (i + l.length)) j)) (fun j => pc_o (fi j)) (fun j => pc_o (nx j)) (fun j => pc_o (pv j)) (fun j => pc_o (hm j)) (fun j => lN (ky j)) (pc_BU lv) (pc_OC lv) (fun j => pc_o (lv j)) (pc_ME lv) → wX_measureDepths_18 post J (nI t) 0 1 (nI T) (nI M) (nI g) (lN wb) (lN nw) (fun j => nI (ba j)) (fun j => nI (ef j)) (fun j => nI (du j)) (fun j => pc_o (ho j)) (fun j => pc_o (oF j)) (fun j => lN (sn j)) (fun j => nI (dp j)) (fun j => pc_o (fi j)) (fun j => pc_o (nx j)) (fun j => pc_o (pv j)) (fun j => pc_o (hm j)) (fun j => lN (ky j)) (pc_BU lv) (pc_OC lv) (fun j => pc_o (lv j)) (pc_ME lv) n (nI i) (pc_o x)
  | [], x, i, n + 1, h, _, _, _, K => by
    have e : x = none := h
    subst e
    have it : vp_in (nI t) 16 := vp_in_nI ht (by decide)
    exact br_c (fun _ => ⟨it, nm_r (pc_cI (by omega)) (nm_r (nI_1 t) K)⟩) (fun _ => br_t pc_on ⟨it, nm_r (pc_cI (by omega)) (nm_r (nI_1 t) K)⟩)
  | y :: r, x, i, n + 1, h, hb, hl, hn, K => by
    have e : x = some y := h.1
    subst e
    have hy := hb y List.mem_cons_self
    rw [List.length_cons] at hl hn K
    refine br_f (nI_ge (b := 16) (by omega) (by decide)) (br_f (pc_os (by omega)) (px_next hy (hw y · hy) (nm_r (nI_1 i) ?_)))
    refine px_md18 ht hw r _ (i + 1) n h.2 (fun z hz => hb z (List.mem_cons_of_mem _ hz)) (by omega) (by omega) ?_
    rw [show i + 1 + r.length = i + (r.length + 1) from by omega]
    exact K
theorem px_md2 {post : SX → Prop} (hT : T ≤ 16) (hw : ∀ x m, x < 16 → hm x = some m → m < 16) (hA : pc_AC T (pc_bk hm ho))
    (K : ∀ dp' : Nat → Nat, (∀ t, t < T → ∃ l, pc_Ch (pc_bk hm ho) (pc_bk hm ho t) l ∧ l.length ≤ 16 ∧ dp' t = l.length) → post (pc_X T M g wb nw ba ef du ho oF sn dp' fi nx pv hm ky lv)) :
    ∀ (d i n : Nat) (dp : Nat → Nat), i + d = T → d < n → (∀ t, t < i → ∃ l, pc_Ch (pc_bk hm ho) (pc_bk hm ho t) l ∧ l.length ≤ 16 ∧ dp t = l.length) → wX_measureDepths_2 post 0 1 (nI T) (nI M) (nI g) (lN wb) (lN nw) n (nI i) (fun j => nI (ba j)) (fun j => nI (ef j)) (fun j => nI (du j)) (fun j => pc_o (ho j)) (fun j => pc_o (oF j)) (fun j => lN (sn j)) (fun j => nI (dp j)) (fun j => pc_o (fi j)) (fun j => pc_o (nx j)) (fun j => pc_o (pv j)) (fun j => pc_o (hm j)) (fun j => lN (ky j)) (pc_BU lv) (pc_OC lv) (fun j => pc_o (lv j)) (pc_ME lv)
  | 0, i, n + 1, dp, h, _, h1 => by
    have e : i = T := by omega
    subst e
    exact br_t (nI_le (Nat.le_refl _) (by omega)) (K dp h1)
  | d + 1, i, n + 1, dp, h, hn, h1 => by
    have hi : i < 16 := by omega
    have hlt : ∀ t o, t < T → pc_bk hm ho t = some o → o < T := by
      obtain ⟨r, hr⟩ := hA
      exact fun t o h1 h2 => (hr t o h1 h2).1
    obtain ⟨l, c1, _, c3, c4⟩ := pc_ch_ex hA (pc_bk hm ho i) (fun o ho' => hlt i o (by omega) ho')
    refine br_f (nI_ge (by omega) (by omega)) (px_next hi (hw i · hi) ⟨l.length + 1, ?_⟩)
    refine px_md18 hi hw l _ 0 _ c1 (fun y hy => by have := c3 y hy; omega) (by omega) (by omega) ?_
    refine px_md2 hT hw hA K d (i + 1) n _ (by omega) (by omega) (fun t ht => ?_)
    by_cases q : t = i
    · subst q
      rw [pc_us]
      exact ⟨l, c1, by omega, by omega⟩
    · rw [pc_un q]
      exact h1 t (by omega)
theorem px_deep6 {post : Int32 → Prop} (hT : T ≤ 16) (hr : ∀ t, t < 16 → ef t < 32 ∧ du t < 32) (hdp : ∀ t, t < T → dp t ≤ 16) (hex : ∃ t, t < T ∧ du t ≠ ef t)
    (K : ∀ t, t < T → du t ≠ ef t → (∀ s, s < T → du s ≠ ef s → dp s ≤ dp t) → post (nI t)) :
    ∀ (d i n : Nat) (b : Option Nat), i + d = T → d < n → pc_Am (fun x => du x ≠ ef x) dp i b → wX_deepestStale_6 post 0 1 (nI T) (nI M) (nI g) (lN wb) (lN nw) (fun j => nI (ba j)) (fun j => nI (ef j)) (fun j => nI (du j)) (fun j => pc_o (ho j)) (fun j => pc_o (oF j)) (fun j => lN (sn j)) (fun j => nI (dp j)) (fun j => pc_o (fi j)) (fun j => pc_o (nx j)) (fun j => pc_o (pv j)) (fun j => pc_o (hm j)) (fun j => lN (ky j)) (pc_BU lv) (pc_OC lv) (fun j => pc_o (lv j)) (pc_ME lv) n (nI (b.getD 0)) (pc_o (b.map dp)) (nI i)
  | 0, i, n + 1, b, h, _, hA => by
    have e : i = T := by omega
    subst e
    refine br_t (nI_le (Nat.le_refl _) (by omega)) ?_
    rcases hA with ⟨_, h2⟩ | ⟨t, e, h1, h2, h3⟩
    · obtain ⟨t, a, b⟩ := hex
      exact absurd b (h2 t a)
    · rw [e]
      exact K t h1 h2 (fun s a b => (h3 s a b).1)
  | d + 1, i, n + 1, b, h, hn, hA => by
    have hi : i < 16 := by omega
    have ii : vp_in (nI i) 16 := vp_in_nI hi (by decide)
    have hri := hr i hi
    have hdi := hdp i (by omega)
    have ih : ∀ b', pc_Am (fun x => du x ≠ ef x) dp (i + 1) b' → wX_deepestStale_6 post 0 1 (nI T) (nI M) (nI g) (lN wb) (lN nw) (fun j => nI (ba j)) (fun j => nI (ef j)) (fun j => nI (du j)) (fun j => pc_o (ho j)) (fun j => pc_o (oF j)) (fun j => lN (sn j)) (fun j => nI (dp j)) (fun j => pc_o (fi j)) (fun j => pc_o (nx j)) (fun j => pc_o (pv j)) (fun j => pc_o (hm j)) (fun j => lN (ky j)) (pc_BU lv) (pc_OC lv) (fun j => pc_o (lv j)) (pc_ME lv) n (nI (b'.getD 0)) (pc_o (b'.map dp)) (nI (i + 1)) := fun b' hA' => px_deep6 hT hr hdp hex K d (i + 1) n b' (by omega) (by omega) hA'
    refine br_f (nI_ge (by omega) (by omega)) (px_isStale hi hri.2 hri.1 (fun z => ?_) (fun z => ?_))
    · exact br_t rfl (nm_r (nI_1 i) (ih b (pc_am_skip hA (fun w => w z))))
    · refine br_f (by decide) ⟨ii, ?_⟩
      rw [nI_clamp (by omega : i < 2 ^ 31)]
      cases b with
      | none =>
        refine br_f ?_ ⟨ii, nm_e (nm_r (nI_1 i) (ih (some i) (pc_am_none hA z)))⟩
        intro w
        have h1 : (-1 : Int32) < nI (dp i) := Int32.lt_of_lt_of_le (by decide : (-1 : Int32) < 0) (nI_pos' (by omega))
        exact absurd w (Int32.not_le.mpr h1)
      | some t =>
        have hti : t < i := by
          rcases hA with ⟨e, _⟩ | ⟨t', e, ht, _⟩
          · exact nomatch e
          · rw [Option.some.inj e]; exact ht
        have hdt := hdp t (by omega)
        by_cases c : dp i ≤ dp t
        · exact br_t (nI_le (b := dp t) c (by omega)) (nm_r (nI_1 i) (ih (some t) (pc_am_le hA c)))
        · exact br_f (nI_ge (a := dp t) (by omega) (by omega)) ⟨ii, nm_e (nm_r (nI_1 i) (ih (some i) (pc_am_gt hA z (by omega))))⟩
theorem px_set17 {post : Int32 → SX → Prop} {hm0 : Nat → Option Nat} {ky0 ef0 F : Nat → Nat} {C : Nat} (hC : C ≤ 16) (hF : pc_FP T ba (pc_bk hm0 ho) F) (hdp : ∀ y t, y < T → pc_bk hm0 ho y = some t → dp y = dp t + 1) (hdb : ∀ t, t < T → dp t ≤ 16)
    (K : ∀ ef' du' oF' fi' nx' pv' hm' ky' lv', (pc_XI pc_0 pc_0 pc_0 pc_0 T M ba ef' du' ho oF' sn fi' nx' pv' hm' ky' lv') → (∀ n, n < 16 ∨ 32 ≤ n → hm' n = hm0 n) → (∀ n, 32 ≤ n → ky' n = ky0 n) → (∀ j, j < T → ef' j = F j) → (∀ j, T ≤ j → ef' j = ef0 j) →
      post (nI C) (pc_X T M g wb nw ba ef' du' ho oF' sn dp fi' nx' pv' hm' ky' lv')) :
    ∀ (n c : Nat) (ef du : Nat → Nat) (oF fi nx pv hm : Nat → Option Nat) (ky : Nat → Nat) (lv : Nat → Option Nat), (pc_XI pc_0 pc_0 pc_0 pc_0 T M ba ef du ho oF sn fi nx pv hm ky lv) → (∀ n, n < 16 ∨ 32 ≤ n → hm n = hm0 n) → (∀ n, 32 ≤ n → ky n = ky0 n) → (∀ j, T ≤ j → ef j = ef0 j) →
      c + pc_ct (fun j => decide (ef j ≠ F j)) T = C → pc_ct (fun j => decide (ef j ≠ F j)) T < n → wX_settle_17 post n (nI c) 0 1 (nI T) (nI M) (nI g) (lN wb) (lN nw) (fun j => nI (ba j)) (fun j => nI (ef j)) (fun j => nI (du j)) (fun j => pc_o (ho j)) (fun j => pc_o (oF j)) (fun j => lN (sn j)) (fun j => nI (dp j)) (fun j => pc_o (fi j)) (fun j => pc_o (nx j)) (fun j => pc_o (pv j)) (fun j => pc_o (hm j)) (fun j => lN (ky j)) (pc_BU lv) (pc_OC lv) (fun j => pc_o (lv j)) (pc_ME lv)
  | 0, c, ef, du, oF, fi, nx, pv, hm, ky, lv, I, h1, h2, h3, hc, hn => by omega
  | n + 1, c, ef, du, oF, fi, nx, pv, hm, ky, lv, I, h1, h2, h3, hc, hn => by
    have hT := I.2.1.1
    have hle := pc_ct_le (fun j => decide (ef j ≠ F j)) T
    have fin : pc_ct (fun j => decide (ef j ≠ F j)) T = 0 → post (nI c) (pc_X T M g wb nw ba ef du ho oF sn dp fi nx pv hm ky lv) := by
      intro hz
      have e : c = C := by omega
      rw [e]
      refine K _ _ _ _ _ _ _ _ _ I h1 h2 (fun j hj => ?_) h3
      have := of_decide_eq_false (pc_ct_z hz j hj)
      exact Classical.byContradiction this
    have hd : ∀ t, t < T → ba t ≤ du t ∧ (∀ y, y < T → pc_bk hm0 ho y = some t → ef y ≤ du t) ∧ (du t = ba t ∨ ∃ y, y < T ∧ pc_bk hm0 ho y = some t ∧ du t ≤ ef y) := by
      intro t ht
      obtain ⟨a1, a2, a3⟩ := pi_dd I ht
      have eb : ∀ y, y < T → pc_bk hm ho y = pc_bk hm0 ho y := fun y hy => pc_bk_c (h1 y (Or.inl (by omega)))
      refine ⟨a1, fun y hy e => a2 y hy ((eb y hy).trans e), ?_⟩
      rcases a3 with z | ⟨y, y1, y2, y3⟩
      · exact Or.inl z
      · exact Or.inr ⟨y, y1, (eb y y1).symm.trans y2, y3⟩
    by_cases hc16 : 16 ≤ c
    · exact br_t (nI_le (a := 16) hc16 (by omega)) (fin (by omega))
    refine br_f (nI_ge (b := 16) (by omega) (by decide)) ?_
    rw [pi_ctS I]
    have hls := pc_ct_le (fun t => decide (du t ≠ ef t)) T
    by_cases hz : pc_ct (fun t => decide (du t ≠ ef t)) T = 0
    · refine br_t (by rw [hz]; decide) (fin (pc_ct_0 (fun j hj => decide_eq_false (fun q => ?_))))
      have hall := (pc_deep (d := 0) hF hd hdp hdb (fun s hs _ => Classical.byContradiction (of_decide_eq_false (pc_ct_z hz s hs)))).1 j hj (Nat.zero_le _)
      exact q hall
    · refine br_f (nI_nle (by omega) (by omega)) ?_
      have hex : ∃ t, t < T ∧ du t ≠ ef t := by
        apply Classical.byContradiction
        intro q
        exact hz (pc_ct_0 (fun j hj => decide_eq_false (fun w => q ⟨j, hj, w⟩)))
      refine ⟨T + 1, px_deep6 hT (fun t ht => ⟨(I.2.1.2.2.1 t ht).2.1, (I.2.1.2.2.1 t ht).2.2.1⟩) hdb hex (fun t ht hst hmax => ?_) T 0 (T + 1) none (by omega) (by omega) pc_am_0⟩
      have h16 : t < 16 := by omega
      have hdu : du t = F t := (pc_deep (d := dp t + 1) hF hd hdp hdb (fun s hs hsd => by
        apply Classical.byContradiction
        intro w
        have := hmax s hs w
        omega)).2 t ht (Nat.le_refl _)
      refine ⟨vp_in_nI h16 (by decide), ?_⟩
      rw [nI_clamp (by omega : t < 2 ^ 31)]
      refine px_setEff I ht (I.2.1.2.2.1 t h16).2.2.1 (fun du' oF' fi' nx' pv' hm' ky' lv' J k1 k2 => nm_r (nI_1 c) ?_)
      have hct : pc_ct (fun j => decide (ef j ≠ F j)) T = pc_ct (fun j => decide (pc_u ef t (du t) j ≠ F j)) T + 1 := by
        refine pc_ct_f (k := t) ?_ ?_ ?_ ht
        · exact decide_eq_true (fun z => hst (by rw [hdu, z]))
        · exact decide_eq_false (fun z => z (by rw [pc_us, hdu]))
        · intro i hi
          show decide (ef i ≠ F i) = decide (pc_u ef t (du t) i ≠ F i)
          rw [pc_un hi]
      refine px_set17 hC hF hdp hdb K n (c + 1) (pc_u ef t (du t)) du' oF' fi' nx' pv' hm' ky' lv' J (fun n hn => (k1 n hn).trans (h1 n hn)) (fun n hn => (k2 n hn).trans (h2 n hn)) (fun j hj => ?_) (by omega) (by omega)
      rw [pc_un (by omega)]
      exact h3 j hj
theorem pr_dp (H : (pc_R k T M g wb nw ba ef du ho oF sn dp fi nx pv hm ky lv wa lf bg fr)) (dp' fr' : Nat → Nat) : (pc_R k T M g wb nw ba ef du ho oF sn dp' fi nx pv hm ky lv wa lf bg fr') := H
end
theorem pc_dpc {T : Nat} {f : Nat → Option Nat} {dp : Nat → Nat} (hA : pc_AC T f) (h : ∀ t, t < T → ∃ l, pc_Ch f (f t) l ∧ l.length ≤ 16 ∧ dp t = l.length) : ∀ y t, y < T → f y = some t → dp y = dp t + 1 := by
  intro y t hy e
  obtain ⟨r, hr⟩ := hA
  have ht := (hr y t hy e).1
  obtain ⟨l, c1, _, c3⟩ := h y hy
  obtain ⟨l', d1, _, d3⟩ := h t ht
  rw [e] at c1
  have : l = t :: l' := pc_ch_u c1 ⟨rfl, d1⟩
  rw [c3, d3, this, List.length_cons]
theorem pc_ch_c {T : Nat} {f f' : Nat → Option Nat} (he : ∀ y, y < T → f' y = f y) : ∀ {l : List Nat} {x : Option Nat}, (∀ y ∈ l, y < T) → pc_Ch f x l → pc_Ch f' x l
  | [], _, _, h => h
  | y :: q, x, hy, h => ⟨h.1, by
      rw [he y (hy y List.mem_cons_self)]
      exact pc_ch_c he (fun z hz => hy z (List.mem_cons_of_mem _ hz)) h.2⟩
theorem pc_mx_c {p q : Nat → Bool} {f : Nat → Nat} {b : Nat} : ∀ {n : Nat}, (∀ i, i < n → p i = q i) → pc_mx p f b n = pc_mx q f b n
  | 0, _ => rfl
  | n + 1, h => by
    have ih := pc_mx_c (p := p) (q := q) (f := f) (b := b) (n := n) (fun i hi => h i (by omega))
    show (if p n = true then (if f n ≤ pc_mx p f b n then pc_mx p f b n else f n) else pc_mx p f b n) = (if q n = true then (if f n ≤ pc_mx q f b n then pc_mx q f b n else f n) else pc_mx q f b n)
    rw [ih, h n (by omega)]
theorem pc_F_c {T : Nat} {ba : Nat → Nat} {f f' : Nat → Option Nat} (hA : pc_AC T f) (he : ∀ y, y < T → f' y = f y) (x : Nat) : pc_F T ba f' x = pc_F T ba f x := by
  have hA' : pc_AC T f' := pc_ac1 hA (fun s o hs h => by rw [he s hs] at h; exact h)
  have sub : ∀ {g g' : Nat → Option Nat}, pc_AC T g → (∀ y, y < T → g' y = g y) → ∀ s, s < T → (∃ l, pc_Ch g (g s) l ∧ x ∈ l) → ∃ l, pc_Ch g' (g' s) l ∧ x ∈ l := by
    intro g g' hg hgg s hs h
    obtain ⟨l, c1, c2⟩ := h
    have hlt : ∀ o, g s = some o → o < T := by
      obtain ⟨r, hr⟩ := hg
      exact fun o h2 => (hr s o hs h2).1
    obtain ⟨l', d1, _, d3, _⟩ := pc_ch_ex hg (g s) hlt
    rw [← pc_ch_u c1 d1] at d3
    rw [hgg s hs]
    exact ⟨l, pc_ch_c hgg d3 c1, c2⟩
  unfold pc_F
  apply pc_mx_c
  intro s hs
  cases c : pc_rc f x s
  · cases d : pc_rc f' x s
    · rfl
    · have := pc_rc_t.mpr (sub hA' (fun y hy => (he y hy).symm) s hs (pc_rc_t.mp d))
      rw [c] at this
      exact nomatch this
  · exact pc_rc_t.mpr (sub hA he s hs (pc_rc_t.mp c))
theorem i_vc_settle {k : Nat} {u : SX} {v : SY} (I : i_Rel k u v) (hk : k + 4 ≤ 2051) : wpX_settle (fun r u' => wpY_settle (fun r' v' => r' = r ∧ i_Rel (k + 4) u' v') v) u := by
  refine pr_el (P := fun u v => wpX_settle (fun r u' => wpY_settle (fun r' v' => r' = r ∧ i_Rel (k + 4) u' v') v) u) ?_ I
  intro T M g wb nw ba ef du ho oF sn dp fi nx pv hm ky lv wa lf bg fr H
  have hT := pr_T H
  have hA := H.2.2.2.2.2.2
  have hAw : pc_AC T (pc_bk wa ho) := pc_ac1 hA (fun s o hs h => by rw [pr_bk H (by omega)] at h; exact h)
  have eF : ∀ j, pc_F T ba (pc_bk wa ho) j = pc_F T ba (pc_bk hm ho) j := pc_F_c hA (fun y hy => pr_bk H (by omega))
  have hF := pc_F_fp (ba := ba) hA
  have hle := pc_ct_le (fun j => decide (ef j ≠ pc_F T ba (pc_bk hm ho) j)) T
  have ec : pc_ct (fun j => decide (ef j ≠ pc_F T ba (pc_bk wa ho) j)) T = pc_ct (fun j => decide (ef j ≠ pc_F T ba (pc_bk hm ho) j)) T := pc_ct_c (fun j _ => by rw [eF j])
  have hls := pc_ct_le (fun t => decide (du t ≠ ef t)) T
  unfold wpX_settle
  by_cases hz : pc_ct (fun t => decide (du t ≠ ef t)) T = 0
  · refine br_t (show pc_ME lv 0 = 0 from by rw [pi_ctS H.1, hz]; rfl) ?_
    have hch : ∀ t, ∃ d, t < T → ∃ l, pc_Ch (pc_bk hm ho) (pc_bk hm ho t) l ∧ l.length ≤ 16 ∧ d = l.length := by
      intro t
      by_cases ht : t < T
      · obtain ⟨r, hr⟩ := hA
        obtain ⟨l, c1, _, _, c4⟩ := pc_ch_ex H.2.2.2.2.2.2 (pc_bk hm ho t) (fun o ho' => (hr t o ht ho').1)
        exact ⟨l.length, fun _ => ⟨l, c1, by omega, rfl⟩⟩
      · exact ⟨0, fun z => absurd z ht⟩
    obtain ⟨dp0, hdp0⟩ := Classical.axiomOfChoice hch
    have hall : ∀ j, j < T → ef j = pc_F T ba (pc_bk hm ho) j := fun j hj => (pc_deep (d := 0) hF (fun t ht => pi_dd H.1 ht) (pc_dpc hA hdp0) (fun t ht => by obtain ⟨l, _, c2, c3⟩ := hdp0 t ht; rw [c3]; exact c2) (fun s hs _ => Classical.byContradiction (of_decide_eq_false (pc_ct_z hz s hs)))).1 j hj (Nat.zero_le _)
    refine py_settle hT (pr_hw H) hAw (pr_ba H) (pr_he H) (fun ef' fr' h1 h2 => ⟨?_, ?_⟩)
    · rw [ec, pc_ct_0 (fun j hj => decide_eq_false (fun z => z (hall j hj)))]
      rfl
    · have e : ef' = ef := by
        funext j
        rcases Nat.lt_or_ge j T with c | c
        · rw [h1 j c, eF j, hall j c]
        · exact h2 j c
      rw [e]
      exact pr_in (pr_up (pr_dp H dp fr'))
  · refine br_f (show ¬ pc_ME lv 0 = 0 from by rw [pi_ctS H.1]; exact nI_ne0 (by omega) (by omega)) ⟨T + 1, ?_⟩
    refine px_md2 hT (pr_hx H) hA (fun dp' hdp' => ?_) T 0 (T + 1) dp (by omega) (by omega) (fun t ht => by omega)
    refine ⟨T + 1, px_set17 (hm0 := hm) (ky0 := ky) (ef0 := ef) (F := pc_F T ba (pc_bk hm ho)) (C := pc_ct (fun j => decide (ef j ≠ pc_F T ba (pc_bk hm ho) j)) T) (by omega) hF (pc_dpc hA hdp') (fun t ht => by obtain ⟨l, _, c2, c3⟩ := hdp' t ht; rw [c3]; exact c2) ?_ (T + 1) 0 ef du oF fi nx pv hm ky lv H.1 (fun _ _ => rfl) (fun _ _ => rfl) (fun _ _ => rfl) (by omega) (by omega)⟩
    intro ef1 du' oF' fi' nx' pv' hm' ky' lv' J k1 k2 k3 k4
    refine py_settle hT (pr_hw H) hAw (pr_ba H) (pr_he H) (fun ef' fr' h1 h2 => ⟨by rw [ec], ?_⟩)
    have e : ef' = ef1 := by
      funext j
      rcases Nat.lt_or_ge j T with c | c
      · rw [h1 j c, eF j, k3 j c]
      · rw [h2 j c, k4 j c]
    rw [e]
    exact pr_in (pr_keep (pr_dp H dp' fr') J k1 k2)
end
