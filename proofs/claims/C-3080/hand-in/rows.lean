section
/-! rows of the kit (kit/rows, starting text) -/
theorem pk_us {f : Nat → Int32} {k : Nat} {x : Int32} : upd f k x k = x := if_pos rfl
theorem pk_un {f : Nat → Int32} {k j : Nat} {x : Int32} (h : j ≠ k) : upd f k x j = f j := if_neg h
theorem pk_uLs {f : Nat → Int64} {k : Nat} {x : Int64} : vp_updL f k x k = x := if_pos rfl
theorem pk_uLn {f : Nat → Int64} {k j : Nat} {x : Int64} (h : j ≠ k) : vp_updL f k x j = f j := if_neg h
theorem pk_sub {a b : Nat} (h : b ≤ a) : nI a - nI b = nI (a - b) := by
  obtain ⟨c, rfl⟩ : ∃ c, a = c + b := ⟨a - b, by omega⟩
  rw [← nI_add, Int32.add_sub_cancel, Nat.add_sub_cancel]
theorem pk_m1 (n : Nat) : nI (n + 1) + (-1) = nI n := by
  rw [← nI_1, Int32.add_assoc, show (1 : Int32) + (-1) = 0 from rfl, Int32.add_zero]
theorem pk_mul (a b : Nat) : nI a * nI b = nI (a * b) := (Int32.ofNat_mul a b).symm
theorem pk_div {a d : Nat} (ha : a < 2 ^ 31) (h0 : 0 < d) (hd : d < 2 ^ 31) : nI a / nI d = nI (a / d) := by
  apply Int32.toInt_inj.mp
  rw [lg_idiv_nonneg (by rw [nI_toInt ha]; omega) (by rw [nI_toInt hd]; omega), nI_toInt ha, nI_toInt hd, nI_toInt (Nat.lt_of_le_of_lt (Nat.div_le_self a d) ha)]
  first | rfl | exact (Int.natCast_ediv _ _).symm
theorem pk_rem {a d : Nat} (ha : a < 2 ^ 31) (h0 : 0 < d) (hd : d < 2 ^ 31) : nI a - nI a / nI d * nI d = nI (a % d) := by
  rw [pk_div ha h0 hd, pk_mul, pk_sub (Nat.div_mul_le_self a d)]
  exact congrArg nI (by have := Nat.div_add_mod' a d; omega)
theorem pk_sub_toInt {a b : Nat} (ha : a < 2 ^ 30) (hb : b < 2 ^ 30) : (nI a - nI b).toInt = (a : Int) - b := by
  rw [Int32.toInt_sub, nI_toInt (by omega), nI_toInt (by omega)]
  exact Int.bmod_eq_of_le (by omega) (by omega)
theorem pk_sneg {a b : Nat} (hb : b < 2 ^ 30) (h : a < b) : nI a - nI b < 0 := by
  rw [Int32.lt_iff_toInt_lt, pk_sub_toInt (by omega) hb, show (0 : Int32).toInt = 0 from by decide]
  omega
theorem pk_ix (x : Int32) {n : Nat} (hn : n < 2 ^ 31) : x < 0 ∨ nI n ≤ x ∨ ∃ j : Nat, j < n ∧ x = nI j := by
  by_cases h : x < 0
  · exact Or.inl h
  · obtain ⟨j, hj, rfl⟩ := nI_of h
    by_cases h2 : j < n
    · exact Or.inr (Or.inr ⟨j, h2, rfl⟩)
    · exact Or.inr (Or.inl (nI_le (by omega) hj))
theorem pk_le {x y : Int32} {A B : Prop} (a b : Nat) (f : a ≤ b → A) (g : b < a → B) (hx : x = nI a := by rfl) (hy : y = nI b := by rfl) (ha : a < 2 ^ 31 := by omega) (hb : b < 2 ^ 31 := by omega) : (x ≤ y → A) ∧ (¬ x ≤ y → B) := by
  subst hx hy
  rw [nI_leI ha hb]
  exact ⟨f, fun z => g (by omega)⟩
theorem pk_lt {x y : Int32} {A B : Prop} (a b : Nat) (f : a < b → A) (g : b ≤ a → B) (hx : x = nI a := by rfl) (hy : y = nI b := by rfl) (ha : a < 2 ^ 31 := by omega) (hb : b < 2 ^ 31 := by omega) : (x < y → A) ∧ (¬ x < y → B) := by
  subst hx hy
  rw [nI_ltI ha hb]
  exact ⟨f, fun z => g (by omega)⟩
theorem pk_eq {x y : Int32} {A B : Prop} (a b : Nat) (f : a = b → A) (g : a ≠ b → B) (hx : x = nI a := by rfl) (hy : y = nI b := by rfl) (ha : a < 2 ^ 31 := by omega) (hb : b < 2 ^ 31 := by omega) : (x = y → A) ∧ (¬ x = y → B) := by
  subst hx hy
  rw [nI_eq ha hb]
  exact ⟨f, g⟩
theorem pk_in {x : Int32} (n N : Nat) (h : n < N) (hx : x = nI n := by rfl) (hN : N < 2 ^ 31 := by omega) : vp_in x N := by
  subst hx
  exact vp_in_nI h hN
theorem pk_cl {x : Int32} (n : Nat) (hx : x = nI n := by rfl) (h : n < 2 ^ 31 := by omega) : x.toNatClampNeg = n := by
  subst hx
  exact nI_clamp h
theorem pk_tn {n : Nat} (h : n < 2 ^ 32) : (nI n).toBitVec.toNat = n := Nat.mod_eq_of_lt h
theorem pk_and (x : Int32) {m : Int32} (k : Nat) (hm : m.toBitVec.toNat = 2 ^ k - 1) : x &&& m = nI (x.toBitVec.toNat % 2 ^ k) := by
  apply Int32.toBitVec_inj.mp
  apply BitVec.eq_of_toNat_eq
  rw [Int32.toBitVec_and, BitVec.toNat_and, hm, Nat.and_two_pow_sub_one_eq_mod]
  show _ = (BitVec.ofNat 32 _).toNat
  rw [BitVec.toNat_ofNat]
  exact (Nat.mod_eq_of_lt (Nat.lt_of_le_of_lt (Nat.mod_le _ _) x.toBitVec.isLt)).symm
theorem pk_andN {n : Nat} (h : n < 2 ^ 32) {m : Int32} (k : Nat) (hm : m.toBitVec.toNat = 2 ^ k - 1) : nI n &&& m = nI (n % 2 ^ k) := by
  rw [pk_and _ k hm, pk_tn h]
theorem pk_andE (x : Int32) {m : Int32} (k : Nat) (hm : m.toBitVec.toNat = 2 ^ k - 1) : ∃ j : Nat, j < 2 ^ k ∧ x &&& m = nI j := ⟨_, Nat.mod_lt _ (Nat.two_pow_pos k), pk_and x k hm⟩
theorem pk_andIn (x : Int32) {m : Int32} (k : Nat) (hm : m.toBitVec.toNat = 2 ^ k - 1) (hk : k ≤ 30) : vp_in (x &&& m) (2 ^ k) := by
  obtain ⟨j, hj, e⟩ := pk_andE x k hm
  rw [e]
  exact vp_in_nI hj (Nat.lt_of_le_of_lt (Nat.pow_le_pow_right (by decide) hk) (by decide))
theorem pk_shl (a s : Int32) (k : Nat) (hs : (s.toBitVec.smod 32).toNat = k) : (a <<< s).toBitVec.toNat = a.toBitVec.toNat * 2 ^ k % 2 ^ 32 := by
  show (a.toBitVec <<< (s.toBitVec.smod 32).toNat).toNat = _
  rw [hs, BitVec.toNat_shiftLeft, Nat.shiftLeft_eq]
theorem pk_shlN {n : Nat} (s : Int32) (k : Nat) (hs : (s.toBitVec.smod 32).toNat = k) (h : n * 2 ^ k < 2 ^ 32) : nI n <<< s = nI (n * 2 ^ k) := by
  apply Int32.toBitVec_inj.mp
  apply BitVec.eq_of_toNat_eq
  have hn : n < 2 ^ 32 := Nat.lt_of_le_of_lt (Nat.le_mul_of_pos_right n (Nat.two_pow_pos k)) h
  rw [pk_shl _ _ k hs, pk_tn hn, pk_tn h, Nat.mod_eq_of_lt h]
theorem pk_shr (a s : Int32) (k : Nat) (hs : (s.toBitVec.smod 32).toNat = k) : (a >>> s).toInt = a.toInt >>> k := by
  show (a.toBitVec.sshiftRight (s.toBitVec.smod 32).toNat).toInt = _
  rw [hs, BitVec.toInt_sshiftRight]
  rfl
theorem pk_shrN {n : Nat} (h : n < 2 ^ 31) (s : Int32) (k : Nat) (hs : (s.toBitVec.smod 32).toNat = k) : nI n >>> s = nI (n / 2 ^ k) := by
  apply Int32.toInt_inj.mp
  have h2 : n / 2 ^ k ≤ n := Nat.div_le_self _ _
  rw [pk_shr _ _ k hs, nI_toInt h, nI_toInt (by omega), Int.shiftRight_eq_div_pow]
  rfl
theorem pk_ushr (x s : Int32) (k : Nat) (hs : ((s.toUInt32 &&& Int32.toUInt32 31).toBitVec % 32).toNat = k) : (x.toUInt32 >>> (s.toUInt32 &&& Int32.toUInt32 31)).toInt32.toBitVec.toNat = x.toBitVec.toNat / 2 ^ k := by
  have e : (x.toUInt32 >>> (s.toUInt32 &&& Int32.toUInt32 31)).toInt32.toBitVec = x.toBitVec >>> k := by
    rw [← hs]
    exact UInt32.toBitVec_shiftRight _ _
  rw [e, BitVec.toNat_ushiftRight, Nat.shiftRight_eq_div_pow]
theorem pk_ushrN {n : Nat} (hn : n < 2 ^ 32) (s : Int32) (k : Nat) (hs : ((s.toUInt32 &&& Int32.toUInt32 31).toBitVec % 32).toNat = k) : ((nI n).toUInt32 >>> (s.toUInt32 &&& Int32.toUInt32 31)).toInt32 = nI (n / 2 ^ k) := by
  apply Int32.toBitVec_inj.mp
  apply BitVec.eq_of_toNat_eq
  rw [pk_ushr _ s k hs, pk_tn hn, pk_tn (Nat.lt_of_le_of_lt (Nat.div_le_self _ _) hn)]
theorem pk_lT {n : Nat} (h : n < 2 ^ 63) : (lN n).toInt = (n : Int) := lg_ofNat_toInt h
theorem pk_lLT {a b : Nat} (ha : a < 2 ^ 63) (hb : b < 2 ^ 63) : lN a < lN b ↔ a < b := by
  rw [Int64.lt_iff_toInt_lt, pk_lT ha, pk_lT hb]; omega
theorem pk_lLE {a b : Nat} (ha : a < 2 ^ 63) (hb : b < 2 ^ 63) : lN a ≤ lN b ↔ a ≤ b := by
  rw [Int64.le_iff_toInt_le, pk_lT ha, pk_lT hb]; omega
theorem pk_lEQ {a b : Nat} (ha : a < 2 ^ 63) (hb : b < 2 ^ 63) : lN a = lN b ↔ a = b := by
  rw [← Int64.toInt_inj, pk_lT ha, pk_lT hb]; omega
theorem pk_lOf {x : Int64} (h : ¬ x < 0) : ∃ k : Nat, k < 2 ^ 63 ∧ x = lN k := by
  rw [Int64.lt_iff_toInt_lt] at h
  have h0 : (0 : Int64).toInt = 0 := by decide
  have hx := Int64.toInt_lt x
  refine ⟨x.toInt.toNat, by omega, Int64.toInt_inj.mp ?_⟩
  rw [pk_lT (by omega)]
  omega
theorem pk_lDiv {a b : Nat} (ha : a < 2 ^ 63) (h0 : 0 < b) (hb : b < 2 ^ 63) : lN a / lN b = lN (a / b) := by
  apply Int64.toInt_inj.mp
  rw [lg_ldiv_nonneg (by rw [pk_lT ha]; omega) (by rw [pk_lT hb]; omega), pk_lT ha, pk_lT hb, pk_lT (Nat.lt_of_le_of_lt (Nat.div_le_self a b) ha)]
  rfl
theorem pk_lRem {a b : Nat} (ha : a < 2 ^ 63) (h0 : 0 < b) (hb : b < 2 ^ 63) : lN a - lN a / lN b * lN b = lN (a % b) := by
  rw [pk_lDiv ha h0 hb, lN_mul, lN_sub (Nat.div_mul_le_self a b)]
  exact congrArg lN (by have := Nat.div_add_mod' a b; omega)
/-! ===== Int32 by its bits: bt x i ===== -/
def bt (x : Int32) (i : Nat) : Bool := x.toBitVec.getLsbD i
theorem b_ext {x y : Int32} (h : ∀ i, i < 32 → bt x i = bt y i) : x = y := Int32.toBitVec_inj.mp (BitVec.eq_of_getLsbD_eq (fun i hi => h i hi))
theorem b_or (x y : Int32) (i : Nat) : bt (x ||| y) i = (bt x i || bt y i) := by unfold bt; rw [Int32.toBitVec_or, BitVec.getLsbD_or]
theorem b_and (x y : Int32) (i : Nat) : bt (x &&& y) i = (bt x i && bt y i) := by unfold bt; rw [Int32.toBitVec_and, BitVec.getLsbD_and]
theorem b_xor (x y : Int32) (i : Nat) : bt (x ^^^ y) i = (bt x i ^^ bt y i) := by unfold bt; rw [Int32.toBitVec_xor, BitVec.getLsbD_xor]
theorem b_big {x : Int32} {i : Nat} (h : 32 ≤ i) : bt x i = false := BitVec.getLsbD_of_ge _ _ h
theorem b_255 (i : Nat) : bt 255 i = decide (i < 8) := by
  rcases Nat.lt_or_ge i 32 with h | h
  · exact (by decide +kernel : ∀ i, i < 32 → bt 255 i = decide (i < 8)) i h
  · rw [b_big h, decide_eq_false (by omega)]
theorem b_65535 (i : Nat) : bt 65535 i = decide (i < 16) := by
  rcases Nat.lt_or_ge i 32 with h | h
  · exact (by decide +kernel : ∀ i, i < 32 → bt 65535 i = decide (i < 16)) i h
  · rw [b_big h, decide_eq_false (by omega)]
theorem b_m1 : ∀ i, i < 32 → bt (-1) i = true := by decide +kernel
theorem b_0 (i : Nat) : bt 0 i = false := BitVec.getLsbD_zero
theorem s_l : ∀ n, n < 32 → ((nI n &&& 31).toBitVec.smod 32).toNat = n := by decide +kernel
theorem s_u : ∀ n, n < 32 → (((nI n).toUInt32 &&& Int32.toUInt32 31).toBitVec % 32).toNat = n := by decide +kernel
theorem b_shl (n : Nat) (hn : n < 32) (x : Int32) {i : Nat} (hi : i < 32) : bt (x <<< (nI n &&& 31)) i = (decide (n ≤ i) && bt x (i - n)) := by
  unfold bt
  rw [Int32.toBitVec_shiftLeft]
  show (x.toBitVec <<< ((nI n &&& 31).toBitVec.smod 32).toNat).getLsbD i = _
  rw [s_l n hn, BitVec.getLsbD_shiftLeft]
  rcases Nat.lt_or_ge i n with h | h
  · simp [h, Nat.not_le.mpr h]
  · simp [hi, h, Nat.not_lt.mpr h]
theorem b_ushr (n : Nat) (hn : n < 32) (x : Int32) (i : Nat) : bt ((x.toUInt32 >>> ((nI n).toUInt32 &&& Int32.toUInt32 31)).toInt32) i = bt x (n + i) := by
  show (x.toUInt32 >>> ((nI n).toUInt32 &&& Int32.toUInt32 31)).toBitVec.getLsbD i = x.toUInt32.toBitVec.getLsbD (n + i)
  rw [UInt32.toBitVec_shiftRight]
  show (x.toUInt32.toBitVec >>> (((nI n).toUInt32 &&& Int32.toUInt32 31).toBitVec % 32).toNat).getLsbD i = _
  rw [s_u n hn, BitVec.getLsbD_ushiftRight]
theorem b_sshr (n : Nat) (hn : n < 32) (x : Int32) {i : Nat} (hi : i < 32) : bt (x >>> (nI n &&& 31)) i = if n + i < 32 then bt x (n + i) else bt x 31 := by
  unfold bt
  rw [Int32.toBitVec_shiftRight]
  show (x.toBitVec.sshiftRight ((nI n &&& 31).toBitVec.smod 32).toNat).getLsbD i = _
  rw [s_l n hn, BitVec.getLsbD_sshiftRight, BitVec.msb_eq_getLsbD_last]
  simp [hi]
theorem b_shl8 (x : Int32) {i : Nat} (hi : i < 32) : bt (x <<< ((8 : Int32) &&& 31)) i = (decide (8 ≤ i) && bt x (i - 8)) := b_shl 8 (by omega) x hi
theorem b_shl16 (x : Int32) {i : Nat} (hi : i < 32) : bt (x <<< ((16 : Int32) &&& 31)) i = (decide (16 ≤ i) && bt x (i - 16)) := b_shl 16 (by omega) x hi
theorem b_shl24 (x : Int32) {i : Nat} (hi : i < 32) : bt (x <<< ((24 : Int32) &&& 31)) i = (decide (24 ≤ i) && bt x (i - 24)) := b_shl 24 (by omega) x hi
theorem b_sshr8 (x : Int32) {i : Nat} (hi : i < 32) : bt (x >>> ((8 : Int32) &&& 31)) i = if 8 + i < 32 then bt x (8 + i) else bt x 31 := b_sshr 8 (by omega) x hi
/-! ===== lN n to 2^64: shifts, and, or, masks, one bit ===== -/
theorem wb_tb (n : Nat) : (lN n).toBitVec = BitVec.ofNat 64 n := rfl
theorem wb_inj {a b : Int64} (h : a.toBitVec = b.toBitVec) : a = b := Int64.toBitVec_inj.mp h
theorem wb_tn {n : Nat} (h : n < 2 ^ 64) : (lN n).toBitVec.toNat = n := by rw [wb_tb, BitVec.toNat_ofNat, Nat.mod_eq_of_lt h]
theorem wb_of (x : Int64) : ∃ n, n < 2 ^ 64 ∧ x = lN n := ⟨x.toBitVec.toNat, x.toBitVec.isLt, wb_inj (by rw [wb_tb]; simp)⟩
theorem wb_of32 (x : Int32) : ∃ n, n < 2 ^ 32 ∧ x = nI n := ⟨x.toBitVec.toNat, x.toBitVec.isLt, Int32.toBitVec_inj.mp (by show _ = BitVec.ofNat 32 _; simp)⟩
theorem wb_c : ∀ k, k < 64 → ((nI k).toInt64 &&& 63) = lN k := by decide +kernel
theorem wb_cu : ∀ k, k < 64 → ((nI k).toInt64.toUInt64 &&& Int64.toUInt64 63) = UInt64.ofNat k := by decide +kernel
theorem wb_sm : ∀ k, k < 64 → (BitVec.ofNat 64 k).smod 64 = BitVec.ofNat 64 k := by decide +kernel
theorem wb_pw {a b : Nat} (h : a ≤ b) : 2 ^ b = 2 ^ a * 2 ^ (b - a) := by rw [← Nat.pow_add]; congr 1; omega
theorem wb_lt2 {a b : Nat} (h : a < b) : 2 ^ a < 2 ^ b := Nat.pow_lt_pow_right (by decide) h
theorem wb_mod (n : Nat) : lN n = lN (n % 2 ^ 64) := wb_inj (by rw [wb_tb, wb_tb]; apply BitVec.eq_of_toNat_eq; rw [BitVec.toNat_ofNat, BitVec.toNat_ofNat, Nat.mod_mod])
theorem wb_shr {n k : Nat} (hn : n < 2 ^ 64) (hk : k < 64) : ((lN n).toUInt64 >>> ((nI k).toInt64.toUInt64 &&& Int64.toUInt64 63)).toInt64 = lN (n / 2 ^ k) := by
  rw [wb_cu k hk]
  apply wb_inj
  apply BitVec.eq_of_toNat_eq
  show ((lN n).toUInt64 >>> UInt64.ofNat k).toNat = (BitVec.ofNat 64 _).toNat
  have h1 : (UInt64.ofNat k).toNat = k := by
    show (BitVec.ofNat 64 k).toNat = k
    rw [BitVec.toNat_ofNat, Nat.mod_eq_of_lt (by omega)]
  have h2 : (lN n).toUInt64.toNat = n := wb_tn hn
  rw [UInt64.toNat_shiftRight, h1, h2, Nat.mod_eq_of_lt hk, Nat.shiftRight_eq_div_pow, BitVec.toNat_ofNat, Nat.mod_eq_of_lt (Nat.lt_of_le_of_lt (Nat.div_le_self _ _) hn)]
theorem wb_shl (n : Nat) {k : Nat} (hk : k < 64) : lN n <<< ((nI k).toInt64 &&& 63) = lN (n * 2 ^ k) := by
  rw [wb_c k hk]
  apply wb_inj
  rw [Int64.toBitVec_shiftLeft, wb_tb, wb_tb, wb_tb, wb_sm k hk]
  apply BitVec.eq_of_toNat_eq
  rw [BitVec.shiftLeft_eq', BitVec.toNat_shiftLeft, BitVec.toNat_ofNat, BitVec.toNat_ofNat, BitVec.toNat_ofNat, Nat.mod_eq_of_lt (show k < 2 ^ 64 by omega), Nat.shiftLeft_eq, Nat.mul_mod, Nat.mod_mod, ← Nat.mul_mod]
theorem wb_and {a b : Nat} (ha : a < 2 ^ 64) (hb : b < 2 ^ 64) : lN a &&& lN b = lN (a &&& b) := by
  apply wb_inj
  rw [Int64.toBitVec_and, wb_tb, wb_tb, wb_tb]
  apply BitVec.eq_of_toNat_eq
  rw [BitVec.toNat_and, BitVec.toNat_ofNat, BitVec.toNat_ofNat, BitVec.toNat_ofNat, Nat.mod_eq_of_lt ha, Nat.mod_eq_of_lt hb, Nat.mod_eq_of_lt (Nat.and_lt_two_pow _ hb)]
theorem wb_or {a b : Nat} (ha : a < 2 ^ 64) (hb : b < 2 ^ 64) : lN a ||| lN b = lN (a ||| b) := by
  apply wb_inj
  rw [Int64.toBitVec_or, wb_tb, wb_tb, wb_tb]
  apply BitVec.eq_of_toNat_eq
  rw [BitVec.toNat_or, BitVec.toNat_ofNat, BitVec.toNat_ofNat, BitVec.toNat_ofNat, Nat.mod_eq_of_lt ha, Nat.mod_eq_of_lt hb, Nat.mod_eq_of_lt (Nat.or_lt_two_pow ha hb)]
theorem wb_mask {n k : Nat} (hn : n < 2 ^ 64) (hk : k < 64) : lN n &&& lN (2 ^ k - 1) = lN (n % 2 ^ k) := by
  rw [wb_and hn (by have := wb_lt2 hk; omega), Nat.and_two_pow_sub_one_eq_mod]
theorem wb_a1 {n : Nat} (hn : n < 2 ^ 64) : lN n &&& 1 = lN (n % 2) := wb_mask (k := 1) hn (by decide)
theorem wb_bit {n k : Nat} (hn : n < 2 ^ 64) (hk : k < 64) : ((lN n).toUInt64 >>> ((nI k).toInt64.toUInt64 &&& Int64.toUInt64 63)).toInt64 &&& 1 = lN (n / 2 ^ k % 2) := by
  rw [wb_shr hn hk, wb_a1 (Nat.lt_of_le_of_lt (Nat.div_le_self _ _) hn)]
theorem wb_xor {q k : Nat} (hk : k < 63) (h : 2 ^ k ≤ q) (h2 : q < 2 ^ (k + 1)) : lN q ^^^ lN (2 ^ k) = lN (q - 2 ^ k) := by
  obtain ⟨r, rfl⟩ : ∃ r, q = 2 ^ k + r := ⟨q - 2 ^ k, by omega⟩
  have hr : r < 2 ^ k := by rw [Nat.pow_succ] at h2; omega
  have hx : (2 ^ k + r) ^^^ 2 ^ k = r := by
    apply Nat.eq_of_testBit_eq
    intro i
    rw [Nat.testBit_xor, Nat.testBit_two_pow]
    rcases Nat.lt_trichotomy i k with h | h | h
    · rw [Nat.testBit_two_pow_add_gt h]
      simp [show ¬ k = i by omega]
    · subst h
      rw [Nat.testBit_two_pow_add_eq]
      simp
    · have a1 : 2 ^ (k + 1) ≤ 2 ^ i := Nat.pow_le_pow_right (by decide) h
      rw [Nat.testBit_lt_two_pow (show 2 ^ k + r < 2 ^ i by omega), Nat.testBit_lt_two_pow (show r < 2 ^ i by omega)]
      simp [show ¬ k = i by omega]
  have b1 := wb_lt2 (show k + 1 < 64 by omega)
  have b2 := wb_lt2 (show k < 64 by omega)
  apply wb_inj
  rw [Int64.toBitVec_xor, wb_tb, wb_tb, wb_tb]
  apply BitVec.eq_of_toNat_eq
  rw [BitVec.toNat_xor, BitVec.toNat_ofNat, BitVec.toNat_ofNat, BitVec.toNat_ofNat, Nat.mod_eq_of_lt (by omega : 2 ^ k + r < 2 ^ 64), Nat.mod_eq_of_lt b2, hx, Nat.add_sub_cancel_left, Nat.mod_eq_of_lt (by omega)]
/-! ===== Int64 as an unsigned number: uN x ===== -/
def uN (x : Int64) : Nat := x.toUInt64.toNat
theorem uN_lt (x : Int64) : uN x < 18446744073709551616 := x.toUInt64.toNat_lt
theorem uN_inj {x y : Int64} (h : uN x = uN y) : x = y := congrArg UInt64.toInt64 (UInt64.toNat_inj.mp h)
theorem uN_add (x y : Int64) : uN (x + y) = (uN x + uN y) % 18446744073709551616 := by
  show (x.toUInt64 + y.toUInt64).toNat = _
  exact UInt64.toNat_add _ _
theorem uN_mul (x y : Int64) : uN (x * y) = (uN x * uN y) % 18446744073709551616 := by
  show (x.toUInt64 * y.toUInt64).toNat = _
  exact UInt64.toNat_mul _ _
theorem uN_shl (x : Int64) : uN (x <<< ((1 : Int32).toInt64 &&& 63)) = (2 * uN x) % 18446744073709551616 := by
  have h : (((1 : Int32).toInt64 &&& 63).toBitVec.smod 64).toNat = 1 := by decide
  show (x.toBitVec <<< (((1 : Int32).toInt64 &&& 63).toBitVec.smod 64).toNat).toNat = _
  rw [h, BitVec.toNat_shiftLeft, Nat.shiftLeft_eq, Nat.mul_comm]
  rfl
theorem uN_shr (x : Int64) (s : UInt64) : uN (x.toUInt64 >>> s).toInt64 = uN x / 2 ^ (s.toNat % 64) := by
  show (x.toUInt64 >>> s).toNat = _
  rw [UInt64.toNat_shiftRight, Nat.shiftRight_eq_div_pow]
  rfl
theorem uN_s32 (x : Int64) : uN (x.toUInt64 >>> ((32 : Int32).toInt64.toUInt64 &&& Int64.toUInt64 63)).toInt64 = uN x / 4294967296 := by
  have h : ((32 : Int32).toInt64.toUInt64 &&& Int64.toUInt64 63).toNat % 64 = 32 := by decide
  rw [uN_shr, h]
theorem uN_s63 (x : Int64) : uN (x.toUInt64 >>> ((63 : Int32).toInt64.toUInt64 &&& Int64.toUInt64 63)).toInt64 = uN x / 9223372036854775808 := by
  have h : ((63 : Int32).toInt64.toUInt64 &&& Int64.toUInt64 63).toNat % 64 = 63 := by decide
  rw [uN_shr, h]
theorem uN_lo (x : Int64) : uN (x &&& 4294967295) = uN x % 4294967296 := by
  show (x.toUInt64 &&& Int64.toUInt64 4294967295).toNat = _
  rw [UInt64.toNat_and]
  exact Nat.and_two_pow_sub_one_eq_mod _ 32
theorem uN_bit (x : Int64) : (x &&& 1) = 0 ↔ uN x % 2 = 0 := by
  have h : uN (x &&& 1) = uN x % 2 := by
    show (x.toUInt64 &&& Int64.toUInt64 1).toNat = _
    rw [UInt64.toNat_and]
    exact Nat.and_two_pow_sub_one_eq_mod _ 1
  rw [← h]
  exact ⟨fun z => by rw [z]; rfl, fun z => uN_inj (z.trans rfl)⟩
theorem uN_or {x y : Int64} (hy : uN y < 2) : uN ((x <<< ((1 : Int32).toInt64 &&& 63)) ||| y) = (2 * uN x) % 18446744073709551616 + uN y := by
  have h1 : uN ((x <<< ((1 : Int32).toInt64 &&& 63)) ||| y) = uN (x <<< ((1 : Int32).toInt64 &&& 63)) ||| uN y := UInt64.toNat_or _ _
  have h2 : (2 * uN x) % 18446744073709551616 = 2 ^ 1 * (uN x % 9223372036854775808) := by omega
  rw [h1, uN_shl, h2]
  exact (Nat.two_pow_add_eq_or_of_lt (i := 1) hy _).symm
theorem nat_xor {a : Nat} (h : a < 18446744073709551616) : a ^^^ 2 ^ 63 = (a + 9223372036854775808) % 18446744073709551616 := by
  have h1 : (a ^^^ 2 ^ 63) % 2 ^ 63 = a % 2 ^ 63 := by rw [Nat.xor_mod_two_pow, Nat.mod_self, Nat.xor_zero]
  have h2 : (a ^^^ 2 ^ 63) / 2 ^ 63 = (a / 2 ^ 63) ^^^ 1 := by rw [Nat.xor_div_two_pow, Nat.div_self (Nat.two_pow_pos 63)]
  have h3 : a / 2 ^ 63 = 0 ∨ a / 2 ^ 63 = 1 := by omega
  generalize a ^^^ 2 ^ 63 = t at h1 h2
  rcases h3 with h3 | h3
  · rw [h3] at h2
    have h2 : t / 2 ^ 63 = 1 := h2
    omega
  · rw [h3] at h2
    have h2 : t / 2 ^ 63 = 0 := h2
    omega
theorem uN_xor (x : Int64) : uN (x ^^^ (-9223372036854775808)) = (uN x + 9223372036854775808) % 18446744073709551616 := by
  rw [← nat_xor (uN_lt x)]
  exact UInt64.toNat_xor _ _
theorem uN_int (x : Int64) : x.toInt = if 2 * uN x < 18446744073709551616 then (uN x : Int) else (uN x : Int) - 18446744073709551616 := BitVec.toInt_eq_toNat_cond _
theorem uN_le (x y : Int64) : (x ^^^ (-9223372036854775808)) ≤ (y ^^^ (-9223372036854775808)) ↔ uN x ≤ uN y := by
  have hx := uN_lt x
  have hy := uN_lt y
  rw [Int64.le_iff_toInt_le, uN_int, uN_int, uN_xor, uN_xor]
  omega
theorem uN_sk (x : Int64) {k : Nat} (hk : k < 64) : uN (x.toUInt64 >>> ((nI k).toInt64.toUInt64 &&& Int64.toUInt64 63)).toInt64 = uN x / 2 ^ k := by
  have h : ((nI k).toInt64.toUInt64 &&& Int64.toUInt64 63).toNat % 64 = k := by
    rw [nI_l (by omega), UInt64.toNat_and]
    have e : (lN k).toUInt64.toNat = k % 2 ^ 64 := rfl
    have e2 : (Int64.toUInt64 63).toNat = 2 ^ 6 - 1 := by decide
    rw [e, e2, Nat.and_two_pow_sub_one_eq_mod]
    omega
  rw [uN_shr, h]
end
section
/-! an int as a number below 2^32, a long out of two ints -/
def hw_u (x : Int32) : Nat := x.toBitVec.toNat
theorem hw_ult (x : Int32) : hw_u x < 4294967296 := x.toBitVec.isLt
theorem hw_uinj {x y : Int32} (h : hw_u x = hw_u y) : x = y := Int32.toBitVec_inj.mp (BitVec.eq_of_toNat_eq h)
theorem hw_un {n : Nat} (h : n < 4294967296) : hw_u (nI n) = n := Nat.mod_eq_of_lt h
theorem hw_unm (n : Nat) : hw_u (nI n) = n % 4294967296 := rfl
theorem hw_nu (x : Int32) : nI (hw_u x) = x := hw_uinj (hw_un (hw_ult x))
theorem hw_u0 : hw_u 0 = 0 := rfl
theorem hw_u1 : hw_u 1 = 1 := rfl
theorem hw_um1 : hw_u (-1) = 4294967295 := by decide
theorem hw_uadd (x y : Int32) : hw_u (x + y) = (hw_u x + hw_u y) % 4294967296 := BitVec.toNat_add _ _
theorem hw_usub (x y : Int32) : hw_u (x - y) = (4294967296 - hw_u y + hw_u x) % 4294967296 := BitVec.toNat_sub _ _
theorem hw_uneg (x : Int32) : hw_u (-x) = (4294967296 - hw_u x) % 4294967296 := BitVec.toNat_neg _
theorem hw_umul (x y : Int32) : hw_u (x * y) = hw_u x * hw_u y % 4294967296 := BitVec.toNat_mul _ _
theorem hw_uor (x y : Int32) : hw_u (x ||| y) = hw_u x ||| hw_u y := BitVec.toNat_or _ _
theorem hw_unot (x : Int32) : hw_u (x ^^^ (-1)) = 4294967295 - hw_u x := by
  have e : (x ^^^ (-1)).toBitVec = ~~~ x.toBitVec := by
    rw [Int32.toBitVec_xor, show (-1 : Int32).toBitVec = BitVec.allOnes 32 from by decide, BitVec.xor_allOnes]
  show (x ^^^ (-1)).toBitVec.toNat = _
  rw [e, BitVec.toNat_not]
  rfl
theorem hw_uint (x : Int32) : x.toInt = if 2 * hw_u x < 4294967296 then (hw_u x : Int) else (hw_u x : Int) - 4294967296 := BitVec.toInt_eq_toNat_cond _
theorem hw_nx {a : Nat} (h : a < 4294967296) : a ^^^ 2 ^ 31 = (a + 2147483648) % 4294967296 := by
  have h1 : (a ^^^ 2 ^ 31) % 2 ^ 31 = a % 2 ^ 31 := by rw [Nat.xor_mod_two_pow, Nat.mod_self, Nat.xor_zero]
  have h2 : (a ^^^ 2 ^ 31) / 2 ^ 31 = (a / 2 ^ 31) ^^^ 1 := by rw [Nat.xor_div_two_pow, Nat.div_self (Nat.two_pow_pos 31)]
  have h3 : a / 2 ^ 31 = 0 ∨ a / 2 ^ 31 = 1 := by omega
  generalize a ^^^ 2 ^ 31 = t at h1 h2
  rcases h3 with h3 | h3
  · rw [h3] at h2
    have h2 : t / 2 ^ 31 = 1 := h2
    omega
  · rw [h3] at h2
    have h2 : t / 2 ^ 31 = 0 := h2
    omega
theorem hw_uxor (x : Int32) : hw_u (x ^^^ (-2147483648)) = (hw_u x + 2147483648) % 4294967296 := by
  rw [← hw_nx (hw_ult x)]
  have e : (-2147483648 : Int32).toBitVec.toNat = 2 ^ 31 := by decide
  show (x ^^^ (-2147483648)).toBitVec.toNat = _
  rw [Int32.toBitVec_xor, BitVec.toNat_xor, e]
  rfl
theorem hw_below (p q : Int32) : (q ^^^ (-2147483648)) ≤ (p ^^^ (-2147483648)) ↔ hw_u q ≤ hw_u p := by
  have hx := hw_ult p
  have hy := hw_ult q
  rw [Int32.le_iff_toInt_le, hw_uint, hw_uint, hw_uxor, hw_uxor]
  omega
theorem hw_pos (x : Int32) : 0 ≤ x ↔ hw_u x < 2147483648 := by
  have hx := hw_ult x
  rw [Int32.le_iff_toInt_le, hw_uint x, show (0 : Int32).toInt = 0 from by decide]
  omega
theorem hw_lt0 (x : Int32) : x < 0 ↔ 2147483648 ≤ hw_u x := by
  have hx := hw_ult x
  rw [Int32.lt_iff_toInt_lt, hw_uint x, show (0 : Int32).toInt = 0 from by decide]
  omega
theorem hw_le (x y : Int32) : x ≤ y ↔ (hw_u x + 2147483648) % 4294967296 ≤ (hw_u y + 2147483648) % 4294967296 := by
  have hx := hw_ult x
  have hy := hw_ult y
  rw [Int32.le_iff_toInt_le, hw_uint x, hw_uint y]
  omega
theorem hw_ushl {n : Nat} (hn : n < 32) (x : Int32) : hw_u (x <<< (nI n &&& 31)) = hw_u x * 2 ^ n % 4294967296 := pk_shl x _ n (s_l n hn)
theorem hw_uushr {n : Nat} (hn : n < 32) (x : Int32) : hw_u ((x.toUInt32 >>> ((nI n).toUInt32 &&& Int32.toUInt32 31)).toInt32) = hw_u x / 2 ^ n := pk_ushr x _ n (s_u n hn)
theorem hw_uand (x : Int32) {m : Int32} (k : Nat) (hm : m.toBitVec.toNat = 2 ^ k - 1) : hw_u (x &&& m) = hw_u x % 2 ^ k := by
  show (x &&& m).toBitVec.toNat = _
  rw [Int32.toBitVec_and, BitVec.toNat_and, hm, Nat.and_two_pow_sub_one_eq_mod]
  rfl
/-! longs -/
theorem hw_Nsub (x y : Int64) : uN (x - y) = (18446744073709551616 - uN y + uN x) % 18446744073709551616 := BitVec.toNat_sub x.toBitVec y.toBitVec
theorem hw_Nneg (x : Int64) : uN (-x) = (18446744073709551616 - uN x) % 18446744073709551616 := BitVec.toNat_neg x.toBitVec
theorem hw_NlN {n : Nat} (h : n < 18446744073709551616) : uN (lN n) = n := Nat.mod_eq_of_lt h
theorem hw_NlNm (n : Nat) : uN (lN n) = n % 18446744073709551616 := rfl
theorem hw_lNu (x : Int64) : lN (uN x) = x := uN_inj (hw_NlN (uN_lt x))
theorem hw_N0 : uN 0 = 0 := rfl
theorem hw_N1 : uN 1 = 1 := rfl
theorem hw_Nm1 : uN (-1) = 18446744073709551615 := by decide
theorem hw_Npos (x : Int64) : 0 ≤ x ↔ uN x < 9223372036854775808 := by
  have hx := uN_lt x
  rw [Int64.le_iff_toInt_le, uN_int x, show (0 : Int64).toInt = 0 from by decide]
  omega
theorem hw_Nlt0 (x : Int64) : x < 0 ↔ 9223372036854775808 ≤ uN x := by
  have hx := uN_lt x
  rw [Int64.lt_iff_toInt_lt, uN_int x, show (0 : Int64).toInt = 0 from by decide]
  omega
theorem hw_Nle (x y : Int64) : x ≤ y ↔ (uN x + 9223372036854775808) % 18446744073709551616 ≤ (uN y + 9223372036854775808) % 18446744073709551616 := by
  have hx := uN_lt x
  have hy := uN_lt y
  rw [Int64.le_iff_toInt_le, uN_int x, uN_int y]
  omega
theorem hw_Nlt (x y : Int64) : x < y ↔ (uN x + 9223372036854775808) % 18446744073709551616 < (uN y + 9223372036854775808) % 18446744073709551616 := by
  have hx := uN_lt x
  have hy := uN_lt y
  rw [Int64.lt_iff_toInt_lt, uN_int x, uN_int y]
  omega
theorem hw_Neq (x y : Int64) : x = y ↔ uN x = uN y := ⟨fun h => by rw [h], uN_inj⟩
def hw_j (h l : Int32) : Int64 := lN (hw_u h * 4294967296 + hw_u l)
theorem hw_jN (h l : Int32) : uN (hw_j h l) = hw_u h * 4294967296 + hw_u l := by
  have h1 := hw_ult h
  have h2 := hw_ult l
  exact hw_NlN (by omega)
theorem hw_jB (h l : Int32) : (hw_j h l).toBitVec = h.toBitVec ++ l.toBitVec := by
  apply BitVec.eq_of_toNat_eq
  rw [BitVec.toNat_append]
  have e : (hw_j h l).toBitVec.toNat = hw_u h * 4294967296 + hw_u l := hw_jN h l
  rw [e]
  show hw_u h * 4294967296 + hw_u l = hw_u h <<< 32 ||| hw_u l
  rw [← Nat.shiftLeft_add_eq_or_of_lt (show hw_u l < 2 ^ 32 from hw_ult l), Nat.shiftLeft_eq]
theorem hw_jinj {a b c d : Int32} (h : hw_j a b = hw_j c d) : a = c ∧ b = d := by
  have e := congrArg uN h
  rw [hw_jN, hw_jN] at e
  have h1 := hw_ult b
  have h2 := hw_ult d
  exact ⟨hw_uinj (by omega), hw_uinj (by omega)⟩
theorem hw_jpos (h l : Int32) : 0 ≤ h ↔ 0 ≤ hw_j h l := by
  have h2 := hw_ult l
  rw [hw_pos, hw_Npos, hw_jN]
  omega
theorem hw_j0 (h l : Int32) : (h ||| l) = 0 ↔ hw_j h l = 0 := by
  rw [hw_Neq, hw_jN, hw_N0]
  have e : (h ||| l) = 0 ↔ hw_u h ||| hw_u l = 0 := by
    rw [← hw_uor]
    exact ⟨fun z => by rw [z]; rfl, fun z => hw_uinj z⟩
  rw [e, Nat.or_eq_zero_iff]
  omega
/-! a long's bits -/
def hw_b (x : Int64) (i : Nat) : Bool := x.toBitVec.getLsbD i
theorem hw_bext {x y : Int64} (h : ∀ i, i < 64 → hw_b x i = hw_b y i) : x = y := Int64.toBitVec_inj.mp (BitVec.eq_of_getLsbD_eq (fun i hi => h i hi))
theorem hw_bj (h l : Int32) (i : Nat) : hw_b (hw_j h l) i = if i < 32 then bt l i else bt h (i - 32) := by
  unfold hw_b
  rw [hw_jB, BitVec.getLsbD_append]
  split <;> simp_all [bt]
theorem hw_bN (x : Int64) (i : Nat) : hw_b x i = decide (uN x / 2 ^ i % 2 = 1) := by
  show x.toBitVec.toNat.testBit i = _
  rw [Nat.testBit_eq_decide_div_mod_eq]
  rfl
theorem hw_btN (x : Int32) (i : Nat) : bt x i = decide (hw_u x / 2 ^ i % 2 = 1) := by
  show x.toBitVec.toNat.testBit i = _
  rw [Nat.testBit_eq_decide_div_mod_eq]
  rfl
/-- the bit of a long out of its lower half, its upper half -/
theorem hw_bitlo (h l : Int32) {k : Nat} (hk : k < 32) : uN (hw_j h l) / 2 ^ k % 2 = hw_u l / 2 ^ k % 2 := by
  have e := hw_bj h l k
  rw [if_pos hk, hw_bN, hw_btN] at e
  have e2 := decide_eq_decide.mp e
  have a := Nat.mod_lt (uN (hw_j h l) / 2 ^ k) (show 0 < 2 by decide)
  have b := Nat.mod_lt (hw_u l / 2 ^ k) (show 0 < 2 by decide)
  generalize uN (hw_j h l) / 2 ^ k % 2 = p at e2 a
  generalize hw_u l / 2 ^ k % 2 = q at e2 b
  omega
theorem hw_bithi (h l : Int32) {k : Nat} (hk : 32 ≤ k) : uN (hw_j h l) / 2 ^ k % 2 = hw_u h / 2 ^ (k - 32) % 2 := by
  have e := hw_bj h l k
  rw [if_neg (by omega), hw_bN, hw_btN] at e
  have e2 := decide_eq_decide.mp e
  have a := Nat.mod_lt (uN (hw_j h l) / 2 ^ k) (show 0 < 2 by decide)
  have b := Nat.mod_lt (hw_u h / 2 ^ (k - 32)) (show 0 < 2 by decide)
  generalize uN (hw_j h l) / 2 ^ k % 2 = p at e2 a
  generalize hw_u h / 2 ^ (k - 32) % 2 = q at e2 b
  omega
/-! splitting and joining as X does -/
theorem hw_split (a : Int64) : hw_j ((a >>> ((32 : Int32).toInt64 &&& 63)).toInt32) a.toInt32 = a := by
  apply hw_bext
  intro i hi
  rw [hw_bj]
  unfold bt hw_b
  rw [Int64.toBitVec_toInt32, Int64.toBitVec_toInt32, Int64.toBitVec_shiftRight]
  have hs : (((32 : Int32).toInt64 &&& 63).toBitVec.smod 64).toNat = 32 := by decide
  show (if i < 32 then (BitVec.signExtend 32 a.toBitVec).getLsbD i else (BitVec.signExtend 32 (a.toBitVec.sshiftRight (((32 : Int32).toInt64 &&& 63).toBitVec.smod 64).toNat)).getLsbD (i - 32)) = _
  rw [hs, BitVec.getLsbD_signExtend, BitVec.getLsbD_signExtend, BitVec.getLsbD_sshiftRight]
  split
  · next h => simp [h, hi]
  · next h =>
    have e1 : i - 32 < 32 := by omega
    have e2 : i - 32 < 64 := by omega
    have e3 : 32 + (i - 32) = i := by omega
    simp [e1, e2, e3, hi]
theorem hw_join (h l : Int32) : ((h.toInt64) <<< ((32 : Int32).toInt64 &&& 63)) ||| ((l.toInt64) &&& 4294967295) = hw_j h l := by
  apply hw_bext
  intro i hi
  rw [hw_bj]
  unfold bt hw_b
  rw [Int64.toBitVec_or, Int64.toBitVec_and, Int64.toBitVec_shiftLeft, Int32.toBitVec_toInt64, Int32.toBitVec_toInt64, BitVec.getLsbD_or, BitVec.getLsbD_and]
  have hs : (((32 : Int32).toInt64 &&& 63).toBitVec.smod 64).toNat = 32 := by decide
  have hm : ∀ i, i < 64 → (4294967295 : Int64).toBitVec.getLsbD i = decide (i < 32) := by decide +kernel
  show ((BitVec.signExtend 64 h.toBitVec <<< (((32 : Int32).toInt64 &&& 63).toBitVec.smod 64).toNat).getLsbD i || _) = _
  rw [hs, hm i hi, BitVec.getLsbD_shiftLeft, BitVec.getLsbD_signExtend, BitVec.getLsbD_signExtend]
  by_cases h2 : i < 32
  · simp [h2, hi]
  · have e1 : i - 32 < 32 := by omega
    have e2 : i - 32 < 64 := by omega
    simp [h2, hi, e1, e2]
end
section
/-! sums of longs by halves -/
theorem hw_add0 (a b c d : Int32) (h : hw_u b ≤ hw_u (b + d)) : hw_j (a + c + 0) (b + d) = hw_j a b + hw_j c d := by
  apply uN_inj
  have h1 := hw_ult a
  have h2 := hw_ult b
  have h3 := hw_ult c
  have h4 := hw_ult d
  rw [hw_jN, uN_add, hw_jN, hw_jN, hw_uadd (a + c) 0, hw_uadd a c, hw_u0]
  rw [hw_uadd] at h
  rw [hw_uadd]
  omega
theorem hw_add1 (a b c d : Int32) (h : hw_u (b + d) < hw_u b) : hw_j (a + c + 1) (b + d) = hw_j a b + hw_j c d := by
  apply uN_inj
  have h1 := hw_ult a
  have h2 := hw_ult b
  have h3 := hw_ult c
  have h4 := hw_ult d
  rw [hw_jN, uN_add, hw_jN, hw_jN, hw_uadd (a + c) 1, hw_uadd a c, hw_u1]
  rw [hw_uadd] at h
  rw [hw_uadd]
  omega
theorem hw_sub0 (a b c d : Int32) (h : hw_u d ≤ hw_u b) : hw_j (a - c - 0) (b - d) = hw_j a b - hw_j c d := by
  apply uN_inj
  have h1 := hw_ult a
  have h2 := hw_ult b
  have h3 := hw_ult c
  have h4 := hw_ult d
  rw [hw_jN, hw_Nsub, hw_jN, hw_jN, hw_usub (a - c) 0, hw_usub a c, hw_u0, hw_usub b d]
  omega
theorem hw_sub1 (a b c d : Int32) (h : hw_u b < hw_u d) : hw_j (a - c - 1) (b - d) = hw_j a b - hw_j c d := by
  apply uN_inj
  have h1 := hw_ult a
  have h2 := hw_ult b
  have h3 := hw_ult c
  have h4 := hw_ult d
  rw [hw_jN, hw_Nsub, hw_jN, hw_jN, hw_usub (a - c) 1, hw_usub a c, hw_u1, hw_usub b d]
  omega
theorem hw_neg0 (a b : Int32) (h : -b = 0) : hw_j (-a) (-b) = -hw_j a b := by
  apply uN_inj
  have h1 := hw_ult a
  have h2 := hw_ult b
  have e := congrArg hw_u h
  rw [hw_uneg, hw_u0] at e
  rw [hw_jN, hw_Nneg, hw_jN, hw_uneg, hw_uneg]
  omega
theorem hw_neg1 (a b : Int32) (h : ¬ -b = 0) : hw_j (a ^^^ (-1)) (-b) = -hw_j a b := by
  apply uN_inj
  have h1 := hw_ult a
  have h2 := hw_ult b
  have e : ¬ hw_u (-b) = 0 := fun z => h (hw_uinj (z.trans hw_u0.symm))
  rw [hw_uneg] at e
  rw [hw_jN, hw_Nneg, hw_jN, hw_unot, hw_uneg]
  omega
theorem hw_land (a b c d : Int32) : hw_j (a &&& c) (b &&& d) = hw_j a b &&& hw_j c d := by
  apply hw_bext
  intro i hi
  have e : hw_b (hw_j a b &&& hw_j c d) i = (hw_b (hw_j a b) i && hw_b (hw_j c d) i) := by
    unfold hw_b
    rw [Int64.toBitVec_and, BitVec.getLsbD_and]
  rw [e, hw_bj, hw_bj, hw_bj, b_and, b_and]
  split <;> rfl
theorem hw_lor (a b c d : Int32) : hw_j (a ||| c) (b ||| d) = hw_j a b ||| hw_j c d := by
  apply hw_bext
  intro i hi
  have e : hw_b (hw_j a b ||| hw_j c d) i = (hw_b (hw_j a b) i || hw_b (hw_j c d) i) := by
    unfold hw_b
    rw [Int64.toBitVec_or, BitVec.getLsbD_or]
  rw [e, hw_bj, hw_bj, hw_bj, b_or, b_or]
  split <;> rfl
theorem hw_lxor (a b c d : Int32) : hw_j (a ^^^ c) (b ^^^ d) = hw_j a b ^^^ hw_j c d := by
  apply hw_bext
  intro i hi
  have e : hw_b (hw_j a b ^^^ hw_j c d) i = (hw_b (hw_j a b) i ^^ hw_b (hw_j c d) i) := by
    unfold hw_b
    rw [Int64.toBitVec_xor, BitVec.getLsbD_xor]
  rw [e, hw_bj, hw_bj, hw_bj, b_xor, b_xor]
  split <;> rfl
/-! the rest doubled, with a bit taken in -/
theorem hw_orl {x b : Nat} (hb : b < 2) : (2 * x) % 4294967296 ||| b = (2 * x) % 4294967296 + b := by
  have h2 : (2 * x) % 4294967296 = 2 ^ 1 * (x % 2147483648) := by omega
  rw [h2]
  exact (Nat.two_pow_add_eq_or_of_lt (i := 1) hb _).symm
theorem hw_dbl (h l : Int32) {b : Nat} (hb : b < 2) : uN (hw_j ((h <<< ((1 : Int32) &&& 31)) ||| ((l.toUInt32 >>> ((31 : Int32).toUInt32 &&& Int32.toUInt32 31)).toInt32)) ((l <<< ((1 : Int32) &&& 31)) ||| nI b)) = (2 * uN (hw_j h l) + b) % 18446744073709551616 := by
  have h1 := hw_ult h
  have h2 := hw_ult l
  have s1 : hw_u (h <<< ((1 : Int32) &&& 31)) = (2 * hw_u h) % 4294967296 := by
    have e := hw_ushl (n := 1) (by decide) h
    rw [Nat.mul_comm] at e
    exact e
  have s2 : hw_u (l <<< ((1 : Int32) &&& 31)) = (2 * hw_u l) % 4294967296 := by
    have e := hw_ushl (n := 1) (by decide) l
    rw [Nat.mul_comm] at e
    exact e
  have s3 : hw_u ((l.toUInt32 >>> ((31 : Int32).toUInt32 &&& Int32.toUInt32 31)).toInt32) = hw_u l / 2147483648 := hw_uushr (n := 31) (by decide) l
  rw [hw_jN, hw_jN, hw_uor, hw_uor, s1, s2, s3, hw_un (by omega), hw_orl (by omega), hw_orl hb]
  omega
/-! a bit set that was clear -/
theorem hw_setN (m k : Nat) : m * 2 ^ (k + 1) ||| 2 ^ k = m * 2 ^ (k + 1) + 2 ^ k := by
  rw [← Nat.shiftLeft_eq, ← Nat.shiftLeft_add_eq_or_of_lt (Nat.pow_lt_pow_right (by decide) (by omega))]
theorem hw_u1s {k : Nat} (hk : k < 32) : hw_u ((1 : Int32) <<< (nI k &&& 31)) = 2 ^ k := by
  rw [hw_ushl hk, hw_u1, Nat.one_mul]
  exact Nat.mod_eq_of_lt (Nat.pow_lt_pow_right (by decide) hk)
theorem hw_sethi (x3 x4 : Int32) {m k : Nat} (hk : 32 ≤ k) (hk2 : k < 64) (h : uN (hw_j x3 x4) = m * 2 ^ (k + 1)) : uN (hw_j (x3 ||| ((1 : Int32) <<< ((nI k - 32) &&& 31))) x4) = m * 2 ^ (k + 1) + 2 ^ k := by
  obtain ⟨j, rfl⟩ : ∃ j, k = j + 32 := ⟨k - 32, by omega⟩
  have ek : nI (j + 32) - 32 = nI j := pk_sub (a := j + 32) (b := 32) (by omega)
  have ep : m * 2 ^ (j + 32 + 1) = (m * 2 ^ (j + 1)) * 4294967296 := by
    rw [show j + 32 + 1 = j + 1 + 32 by omega, Nat.pow_add, Nat.mul_assoc]
  have eq2 : 2 ^ (j + 32) = 2 ^ j * 4294967296 := Nat.pow_add 2 j 32
  rw [ep, hw_jN] at h
  have h2 := hw_ult x4
  generalize e5 : m * 2 ^ (j + 1) = M at h ep
  have e3 : hw_u x3 = M := by omega
  have e4 : hw_u x4 = 0 := by omega
  rw [ek, hw_jN, hw_uor, hw_u1s (by omega), e3, e4, ← e5, hw_setN, e5, ep, eq2, Nat.add_mul, Nat.add_zero]
theorem hw_setlo (x3 x4 : Int32) {m k : Nat} (hk : k < 32) (h : uN (hw_j x3 x4) = m * 2 ^ (k + 1)) : uN (hw_j x3 (x4 ||| ((1 : Int32) <<< (nI k &&& 31)))) = m * 2 ^ (k + 1) + 2 ^ k := by
  have h2 := hw_ult x4
  have e4 : hw_u x4 = m % 2 ^ (31 - k) * 2 ^ (k + 1) := by
    rw [← Nat.mul_mod_mul_right, ← h, ← Nat.pow_add, show 31 - k + (k + 1) = 32 by omega, hw_jN]
    omega
  rw [hw_jN] at h ⊢
  rw [hw_uor, hw_u1s hk]
  have e5 : hw_u x4 ||| 2 ^ k = hw_u x4 + 2 ^ k := by
    rw [e4, hw_setN]
  rw [e5, ← h]
  omega
/-! magnitude -/
def hw_mag (x : Int64) : Int64 := if 0 ≤ x then x else -x
theorem hw_magN (x : Int64) : uN (hw_mag x) = x.toInt.natAbs := by
  have hx := uN_lt x
  unfold hw_mag
  rw [uN_int]
  split
  · next h =>
    rw [hw_Npos] at h
    rw [if_pos (by omega)]
    omega
  · next h =>
    rw [hw_Npos] at h
    rw [if_neg (by omega), hw_Nneg]
    omega
/-! order -/
theorem hw_jlt (a b c d : Int32) (h : ¬ a = c) : uN (hw_j a b) < uN (hw_j c d) ↔ hw_u a < hw_u c := by
  have h1 := hw_ult b
  have h2 := hw_ult d
  have h3 : ¬ hw_u a = hw_u c := fun z => h (hw_uinj z)
  rw [hw_jN, hw_jN]
  omega
/-! shifts -/
theorem hw_bshl (x : Int64) {k i : Nat} (hk : k < 64) (hi : i < 64) : hw_b (x <<< ((nI k).toInt64 &&& 63)) i = (decide (k ≤ i) && hw_b x (i - k)) := by
  unfold hw_b
  rw [wb_c k hk, Int64.toBitVec_shiftLeft, wb_tb]
  show (x.toBitVec <<< ((BitVec.ofNat 64 k).smod 64).toNat).getLsbD i = _
  rw [wb_sm k hk, BitVec.toNat_ofNat, Nat.mod_eq_of_lt (by omega), BitVec.getLsbD_shiftLeft]
  rcases Nat.lt_or_ge i k with h | h
  · simp [h, Nat.not_le.mpr h]
  · simp [hi, h, Nat.not_lt.mpr h]
theorem hw_bushr (x : Int64) {k : Nat} (hk : k < 64) (i : Nat) : hw_b ((x.toUInt64 >>> ((nI k).toInt64.toUInt64 &&& Int64.toUInt64 63)).toInt64) i = hw_b x (k + i) := by
  rw [hw_bN, hw_bN, uN_sk x hk, Nat.div_div_eq_div_mul, ← Nat.pow_add]
theorem hw_bsshr (x : Int64) {k i : Nat} (hk : k < 64) (hi : i < 64) : hw_b (x >>> ((nI k).toInt64 &&& 63)) i = if k + i < 64 then hw_b x (k + i) else hw_b x 63 := by
  unfold hw_b
  rw [wb_c k hk, Int64.toBitVec_shiftRight, wb_tb]
  show (x.toBitVec.sshiftRight ((BitVec.ofNat 64 k).smod 64).toNat).getLsbD i = _
  rw [wb_sm k hk, BitVec.toNat_ofNat, Nat.mod_eq_of_lt (by omega), BitVec.getLsbD_sshiftRight, BitVec.msb_eq_getLsbD_last]
  simp [hi]
theorem hw_shlhi (h l : Int32) {k : Nat} (hk : 32 ≤ k) (hk2 : k < 64) : hw_j (l <<< ((nI k - 32) &&& 31)) 0 = hw_j h l <<< ((nI k).toInt64 &&& 63) := by
  apply hw_bext
  intro i hi
  have ek : nI k - 32 = nI (k - 32) := pk_sub (a := k) (b := 32) hk
  rw [hw_bshl _ hk2 hi, hw_bj, hw_bj, ek]
  by_cases h1 : i < 32
  · rw [if_pos h1, b_0, decide_eq_false (by omega)]
    rfl
  · rw [if_neg h1, b_shl _ (by omega) _ (by omega)]
    by_cases h2 : k ≤ i
    · rw [if_pos (by omega), decide_eq_true h2, decide_eq_true (by omega), show i - 32 - (k - 32) = i - k by omega]
    · rw [decide_eq_false h2, decide_eq_false (by omega)]
      rfl
theorem hw_shllo (h l : Int32) {k : Nat} (hk0 : 0 < k) (hk : k < 32) : hw_j ((h <<< (nI k &&& 31)) ||| ((l.toUInt32 >>> ((32 - nI k).toUInt32 &&& Int32.toUInt32 31)).toInt32)) (l <<< (nI k &&& 31)) = hw_j h l <<< ((nI k).toInt64 &&& 63) := by
  apply hw_bext
  intro i hi
  have ek : 32 - nI k = nI (32 - k) := pk_sub (a := 32) (b := k) (by omega)
  rw [hw_bshl _ (by omega) hi, hw_bj, hw_bj, ek]
  by_cases h1 : i < 32
  · rw [if_pos h1, b_shl _ hk _ h1, if_pos (show i - k < 32 by omega)]
  · rw [if_neg h1, b_or, b_shl _ hk _ (by omega), b_ushr _ (by omega), decide_eq_true (show k ≤ i by omega)]
    by_cases h2 : i - k < 32
    · rw [if_pos h2, decide_eq_false (by omega), show 32 - k + (i - 32) = i - k by omega]
      simp
    · rw [if_neg h2, decide_eq_true (by omega), b_big (x := l) (show 32 ≤ 32 - k + (i - 32) by omega), show i - 32 - k = i - k - 32 by omega]
      simp
theorem hw_ushrhi (h l : Int32) {k : Nat} (hk : 32 ≤ k) (hk2 : k < 64) : hw_j 0 ((h.toUInt32 >>> ((nI k - 32).toUInt32 &&& Int32.toUInt32 31)).toInt32) = ((hw_j h l).toUInt64 >>> ((nI k).toInt64.toUInt64 &&& Int64.toUInt64 63)).toInt64 := by
  apply hw_bext
  intro i hi
  have ek : nI k - 32 = nI (k - 32) := pk_sub (a := k) (b := 32) hk
  rw [hw_bushr _ hk2, hw_bj, hw_bj, ek, if_neg (show ¬ k + i < 32 by omega)]
  by_cases h1 : i < 32
  · rw [if_pos h1, b_ushr _ (by omega), show k - 32 + i = k + i - 32 by omega]
  · rw [if_neg h1, b_0, b_big (by omega)]
theorem hw_ushrlo (h l : Int32) {k : Nat} (hk0 : 0 < k) (hk : k < 32) : hw_j ((h.toUInt32 >>> ((nI k).toUInt32 &&& Int32.toUInt32 31)).toInt32) ((h <<< ((32 - nI k) &&& 31)) ||| ((l.toUInt32 >>> ((nI k).toUInt32 &&& Int32.toUInt32 31)).toInt32)) = ((hw_j h l).toUInt64 >>> ((nI k).toInt64.toUInt64 &&& Int64.toUInt64 63)).toInt64 := by
  apply hw_bext
  intro i hi
  have ek : 32 - nI k = nI (32 - k) := pk_sub (a := 32) (b := k) (by omega)
  rw [hw_bushr _ (by omega), hw_bj, hw_bj, ek]
  by_cases h1 : i < 32
  · rw [if_pos h1, b_or, b_shl _ (by omega) _ h1, b_ushr _ hk]
    by_cases h2 : k + i < 32
    · rw [if_pos h2, decide_eq_false (by omega)]
      simp
    · rw [if_neg h2, decide_eq_true (by omega), b_big (show 32 ≤ k + i by omega), show i - (32 - k) = k + i - 32 by omega]
      simp
  · rw [if_neg h1, b_ushr _ hk, if_neg (by omega), show k + (i - 32) = k + i - 32 by omega]
theorem hw_sshrhi (h l : Int32) {k : Nat} (hk : 32 ≤ k) (hk2 : k < 64) : hw_j (if 0 ≤ h then 0 else -1) (h >>> ((nI k - 32) &&& 31)) = hw_j h l >>> ((nI k).toInt64 &&& 63) := by
  apply hw_bext
  intro i hi
  have ek : nI k - 32 = nI (k - 32) := pk_sub (a := k) (b := 32) hk
  have e31 : bt h 31 = decide (¬ 0 ≤ h) := by
    have hh := hw_ult h
    rw [hw_btN, decide_eq_decide, hw_pos]
    omega
  rw [hw_bsshr _ hk2 hi, hw_bj, hw_bj, hw_bj, ek, if_neg (show ¬ k + i < 32 by omega), if_neg (show ¬ (63 : Nat) < 32 by omega)]
  by_cases h1 : i < 32
  · rw [if_pos h1, b_sshr _ (by omega) _ h1]
    by_cases h2 : k + i < 64
    · rw [if_pos h2, if_pos (by omega), show k - 32 + i = k + i - 32 by omega]
    · rw [if_neg h2, if_neg (by omega)]
  · rw [if_neg h1, if_neg (show ¬ k + i < 64 by omega)]
    show _ = bt h 31
    rw [e31]
    by_cases h3 : 0 ≤ h
    · rw [if_pos h3, b_0, decide_eq_false (fun z => z h3)]
    · rw [if_neg h3, b_m1 _ (by omega), decide_eq_true h3]
theorem hw_sshrlo (h l : Int32) {k : Nat} (hk0 : 0 < k) (hk : k < 32) : hw_j (h >>> (nI k &&& 31)) ((h <<< ((32 - nI k) &&& 31)) ||| ((l.toUInt32 >>> ((nI k).toUInt32 &&& Int32.toUInt32 31)).toInt32)) = hw_j h l >>> ((nI k).toInt64 &&& 63) := by
  apply hw_bext
  intro i hi
  have ek : 32 - nI k = nI (32 - k) := pk_sub (a := 32) (b := k) (by omega)
  rw [hw_bsshr _ (by omega) hi, hw_bj, hw_bj, hw_bj, ek, if_neg (show ¬ (63 : Nat) < 32 by omega)]
  by_cases h1 : i < 32
  · rw [if_pos h1, b_or, b_shl _ (by omega) _ h1, b_ushr _ hk, if_pos (show k + i < 64 by omega)]
    by_cases h2 : k + i < 32
    · rw [if_pos h2, decide_eq_false (by omega)]
      simp
    · rw [if_neg h2, decide_eq_true (by omega), b_big (show 32 ≤ k + i by omega), show i - (32 - k) = k + i - 32 by omega]
      simp
  · rw [if_neg h1, b_sshr _ hk _ (by omega), if_neg (show ¬ k + i < 32 by omega)]
    by_cases h2 : k + i < 64
    · rw [if_pos h2, if_pos (by omega), show k + (i - 32) = k + i - 32 by omega]
    · rw [if_neg h2, if_neg (by omega)]
theorem hw_sh0l (x : Int64) : x <<< ((nI 0).toInt64 &&& 63) = x := by
  apply hw_bext
  intro i hi
  rw [hw_bshl _ (by decide) hi, decide_eq_true (by omega)]
  rfl
theorem hw_sh0s (x : Int64) : x >>> ((nI 0).toInt64 &&& 63) = x := by
  apply hw_bext
  intro i hi
  rw [hw_bsshr _ (by decide) hi, if_pos (by omega), Nat.zero_add]
theorem hw_sh0u (x : Int64) : (x.toUInt64 >>> ((nI 0).toInt64.toUInt64 &&& Int64.toUInt64 63)).toInt64 = x := by
  apply hw_bext
  intro i hi
  rw [hw_bushr _ (by decide), Nat.zero_add]
/-- both sides' count of a shift -/
theorem hw_count (h l : Int32) : ∃ k, k < 64 ∧ (l &&& 63) = nI k ∧ (hw_j h l &&& 63).toInt32 = nI k := by
  have e : (63 : Int32).toBitVec.toNat = 2 ^ 6 - 1 := by decide
  refine ⟨hw_u l % 64, Nat.mod_lt _ (by decide), hw_uinj ?_, ?_⟩
  · rw [hw_uand l 6 e, hw_un (by omega)]
  · have e2 : (hw_j h l &&& 63) = lN (hw_u l % 64) := by
      have h1 := hw_ult h
      have h2 := hw_ult l
      have z := wb_mask (n := hw_u h * 4294967296 + hw_u l) (k := 6) (by omega) (by decide)
      refine z.trans (congrArg lN ?_)
      omega
    rw [e2, lN_i]
end
section
/-! the small methods of X, each once, over a general post -/
def hw_V (H L : Nat → Int32) : Nat → Int64 := fun i => hw_j (H i) (L i)
theorem hw_Vu (H L : Nat → Int32) (k : Nat) (h l : Int32) : hw_V (upd H k h) (upd L k l) = vp_updL (hw_V H L) k (hw_j h l) := by
  funext i
  unfold hw_V upd vp_updL
  by_cases e : i = k
  · rw [if_pos e, if_pos e, if_pos e]
  · rw [if_neg e, if_neg e, if_neg e]
theorem hw_i12 {t : Nat} (ht : t < 12) : vp_in (nI t) 12 := vp_in_nI ht (by decide)
theorem hw_c12 {t : Nat} (ht : t < 12) : (nI t).toNatClampNeg = t := nI_clamp (by omega)
section
variable {H L P Q : Nat → Int32} {V : Nat → Int64}
theorem hx_load {post : SX → Prop} (hV : hw_V H L = V) {t : Nat} (ht : t < 12) {p q : Int32} (h : ∀ H' L', hw_V H' L' = vp_updL V t (hw_j p q) → post (H', L', P, Q)) : wpX_load post (H, L, P, Q) (nI t) p q := by
  refine And.intro (hw_i12 ht) (fun a ea => And.intro (hw_i12 ht) (fun b eb => ?_))
  rw [hw_c12 ht] at ea eb
  refine h a b ?_
  rw [ea, eb, hw_Vu, hV]
theorem hx_copy {post : SX → Prop} (hV : hw_V H L = V) {t f : Nat} (ht : t < 12) (hf : f < 12) (h : ∀ H' L', hw_V H' L' = vp_updL V t (V f) → post (H', L', P, Q)) : wpX_copy post (H, L, P, Q) (nI t) (nI f) := by
  refine And.intro (hw_i12 hf) (And.intro (hw_i12 ht) (fun a ea => And.intro (hw_i12 hf) (And.intro (hw_i12 ht) (fun b eb => ?_))))
  rw [hw_c12 ht, hw_c12 hf] at ea eb
  refine h a b ?_
  rw [ea, eb, hw_Vu, hV, ← congrFun hV f]
  rfl
theorem hx_isBelow {pp : Int32 → Prop} {p q : Int32} (h0 : hw_u q ≤ hw_u p → pp 0) (h1 : hw_u p < hw_u q → pp 1) : wpX_isBelow pp (H, L, P, Q) p q :=
  br_c (fun z => h0 ((hw_below p q).mp z)) (fun z => h1 (Nat.lt_of_not_le (fun y => z ((hw_below p q).mpr y))))
theorem hx_isZero {pp : Int32 → Prop} (hV : hw_V H L = V) {a : Nat} (ha : a < 12) (h1 : V a = 0 → pp 1) (h0 : ¬ V a = 0 → pp 0) : wpX_isZero pp (H, L, P, Q) (nI a) := by
  subst hV
  unfold wpX_isZero
  dsimp only
  rw [hw_c12 ha]
  exact ⟨hw_i12 ha, hw_i12 ha, br_c (fun z => h1 ((hw_j0 _ _).mp z)) (fun z => h0 (fun y => z ((hw_j0 _ _).mpr y)))⟩
theorem hx_add {post : SX → Prop} (hV : hw_V H L = V) {a b : Nat} (ha : a < 12) (hb : b < 12) (h : ∀ H' L', hw_V H' L' = vp_updL V 6 (V a + V b) → post (H', L', P, Q)) : wpX_add post (H, L, P, Q) (nI a) (nI b) := by
  subst hV
  unfold wpX_add wX_add_33
  dsimp only
  rw [hw_c12 ha, hw_c12 hb]
  refine ⟨hw_i12 ha, hw_i12 hb, fun x ex => ⟨hw_i12 ha, hx_isBelow (fun z => br_t rfl ?_) (fun z => br_f (by decide) ?_)⟩⟩
  · subst ex
    exact ⟨hw_i12 ha, hw_i12 hb, hx_load (t := 6) rfl (by decide) (fun H' L' e => h H' L' (e.trans (congrArg (vp_updL _ 6) (hw_add0 _ _ _ _ z))))⟩
  · subst ex
    exact ⟨hw_i12 ha, hw_i12 hb, hx_load (t := 6) rfl (by decide) (fun H' L' e => h H' L' (e.trans (congrArg (vp_updL _ 6) (hw_add1 _ _ _ _ z))))⟩
theorem hx_subtract {post : SX → Prop} (hV : hw_V H L = V) {a b : Nat} (ha : a < 12) (hb : b < 12) (h : ∀ H' L', hw_V H' L' = vp_updL V 6 (V a - V b) → post (H', L', P, Q)) : wpX_subtract post (H, L, P, Q) (nI a) (nI b) := by
  subst hV
  unfold wpX_subtract wX_subtract_24
  dsimp only
  rw [hw_c12 ha, hw_c12 hb]
  refine ⟨hw_i12 ha, hw_i12 hb, hx_isBelow (fun z => br_t rfl ?_) (fun z => br_f (by decide) ?_)⟩
  · exact ⟨hw_i12 ha, hw_i12 hb, hw_i12 ha, hw_i12 hb, hx_load (t := 6) rfl (by decide) (fun H' L' e => h H' L' (e.trans (congrArg (vp_updL _ 6) (hw_sub0 _ _ _ _ z))))⟩
  · exact ⟨hw_i12 ha, hw_i12 hb, hw_i12 ha, hw_i12 hb, hx_load (t := 6) rfl (by decide) (fun H' L' e => h H' L' (e.trans (congrArg (vp_updL _ 6) (hw_sub1 _ _ _ _ z))))⟩
theorem hx_negate {post : SX → Prop} (hV : hw_V H L = V) {a : Nat} (ha : a < 12) (h : ∀ H' L', hw_V H' L' = vp_updL V 6 (-V a) → post (H', L', P, Q)) : wpX_negate post (H, L, P, Q) (nI a) := by
  subst hV
  unfold wpX_negate wX_negate_33
  dsimp only
  rw [hw_c12 ha]
  refine ⟨hw_i12 ha, fun x ex => br_c (fun z => ?_) (fun z => ?_)⟩
  · subst ex
    exact ⟨hw_i12 ha, hx_load (t := 6) rfl (by decide) (fun H' L' e => h H' L' (e.trans (congrArg (vp_updL _ 6) (hw_neg0 _ _ z))))⟩
  · subst ex
    exact ⟨hw_i12 ha, hx_load (t := 6) rfl (by decide) (fun H' L' e => h H' L' (e.trans (congrArg (vp_updL _ 6) (hw_neg1 _ _ z))))⟩
theorem hx_magnitude {post : SX → Prop} (hV : hw_V H L = V) {a : Nat} (ha : a < 12) (h : ∀ H' L', hw_V H' L' = vp_updL V 6 (hw_mag (V a)) → post (H', L', P, Q)) : wpX_magnitude post (H, L, P, Q) (nI a) := by
  unfold wpX_magnitude
  dsimp only
  rw [hw_c12 ha]
  have hp := hw_jpos (H a) (L a)
  have hq : hw_j (H a) (L a) = V a := congrFun hV a
  rw [hq] at hp
  refine ⟨hw_i12 ha, br_c (fun z => ?_) (fun z => ?_)⟩
  · refine hx_copy (t := 6) hV (by decide) ha (fun H' L' e => h H' L' ?_)
    rw [e]
    unfold hw_mag
    rw [if_pos (hp.mp z)]
  · refine hx_negate hV ha (fun H' L' e => h H' L' ?_)
    rw [e]
    unfold hw_mag
    rw [if_neg (fun y => z (hp.mpr y))]
theorem hx_and {post : SX → Prop} (hV : hw_V H L = V) {a b : Nat} (ha : a < 12) (hb : b < 12) (h : ∀ H' L', hw_V H' L' = vp_updL V 6 (V a &&& V b) → post (H', L', P, Q)) : wpX_combineBits post (H, L, P, Q) 5 (nI a) (nI b) := by
  subst hV
  unfold wpX_combineBits
  dsimp only
  rw [hw_c12 ha, hw_c12 hb]
  exact br_t rfl ⟨hw_i12 ha, hw_i12 hb, hw_i12 ha, hw_i12 hb, hx_load (t := 6) rfl (by decide) (fun H' L' e => h H' L' (e.trans (congrArg (vp_updL _ 6) (hw_land _ _ _ _))))⟩
theorem hx_or {post : SX → Prop} (hV : hw_V H L = V) {a b : Nat} (ha : a < 12) (hb : b < 12) (h : ∀ H' L', hw_V H' L' = vp_updL V 6 (V a ||| V b) → post (H', L', P, Q)) : wpX_combineBits post (H, L, P, Q) 6 (nI a) (nI b) := by
  subst hV
  unfold wpX_combineBits
  dsimp only
  rw [hw_c12 ha, hw_c12 hb]
  exact br_f (by decide) (br_t rfl ⟨hw_i12 ha, hw_i12 hb, hw_i12 ha, hw_i12 hb, hx_load (t := 6) rfl (by decide) (fun H' L' e => h H' L' (e.trans (congrArg (vp_updL _ 6) (hw_lor _ _ _ _))))⟩)
theorem hx_xor {post : SX → Prop} (hV : hw_V H L = V) {a b : Nat} (ha : a < 12) (hb : b < 12) (h : ∀ H' L', hw_V H' L' = vp_updL V 6 (V a ^^^ V b) → post (H', L', P, Q)) : wpX_combineBits post (H, L, P, Q) 7 (nI a) (nI b) := by
  subst hV
  unfold wpX_combineBits
  dsimp only
  rw [hw_c12 ha, hw_c12 hb]
  exact br_f (by decide) (br_f (by decide) ⟨hw_i12 ha, hw_i12 hb, hw_i12 ha, hw_i12 hb, hx_load (t := 6) rfl (by decide) (fun H' L' e => h H' L' (e.trans (congrArg (vp_updL _ 6) (hw_lxor _ _ _ _))))⟩)
theorem hx_bitOf {pp : Int32 → Prop} (hV : hw_V H L = V) {a k : Nat} (ha : a < 12) (hk : k < 64) (h : pp (nI (uN (V a) / 2 ^ k % 2))) : wpX_bitOf pp (H, L, P, Q) (nI a) (nI k) := by
  subst hV
  unfold wpX_bitOf
  dsimp only
  rw [hw_c12 ha]
  have e1 : (1 : Int32).toBitVec.toNat = 2 ^ 1 - 1 := by decide
  have hm : uN (hw_V H L a) / 2 ^ k % 2 < 2 := Nat.mod_lt _ (by decide)
  by_cases hk2 : k < 32
  · refine br_t (nI_lt (b := 32) hk2 (by decide)) ⟨hw_i12 ha, ?_⟩
    have e : (((L a).toUInt32 >>> ((nI k).toUInt32 &&& Int32.toUInt32 31)).toInt32 &&& 1) = nI (uN (hw_V H L a) / 2 ^ k % 2) := by
      apply hw_uinj
      rw [hw_uand _ 1 e1, hw_uushr hk2, hw_un (by omega)]
      exact (hw_bitlo (H a) (L a) hk2).symm
    rw [e]
    exact h
  · have ek : nI k - 32 = nI (k - 32) := pk_sub (a := k) (b := 32) (by omega)
    refine br_f (nI_nlt (b := 32) (by omega) (by omega)) ⟨hw_i12 ha, ?_⟩
    have e : (((H a).toUInt32 >>> ((nI k - 32).toUInt32 &&& Int32.toUInt32 31)).toInt32 &&& 1) = nI (uN (hw_V H L a) / 2 ^ k % 2) := by
      apply hw_uinj
      rw [ek, hw_uand _ 1 e1, hw_uushr (by omega), hw_un (by omega)]
      exact (hw_bithi (H a) (L a) (by omega)).symm
    rw [e]
    exact h
theorem hx_order {pp : Int32 → Prop} (hV : hw_V H L = V) {a b : Nat} (ha : a < 12) (hb : b < 12) (h1 : uN (V a) < uN (V b) → pp (-1)) (h2 : V a = V b → pp 0) (h3 : uN (V b) < uN (V a) → pp 1) : wpX_orderUnsigned pp (H, L, P, Q) (nI a) (nI b) := by
  subst hV
  unfold wpX_orderUnsigned
  dsimp only
  rw [hw_c12 ha, hw_c12 hb]
  have ea : uN (hw_V H L a) = hw_u (H a) * 4294967296 + hw_u (L a) := hw_jN _ _
  have eb : uN (hw_V H L b) = hw_u (H b) * 4294967296 + hw_u (L b) := hw_jN _ _
  have la := hw_ult (L a)
  have lb := hw_ult (L b)
  refine ⟨hw_i12 ha, hw_i12 hb, br_c (fun z => ⟨hw_i12 ha, hw_i12 hb, br_c (fun y => ?_) (fun y => ⟨hw_i12 ha, hw_i12 hb, hx_isBelow (fun x => br_t rfl ?_) (fun x => br_f (by decide) ?_)⟩)⟩) (fun z => ⟨hw_i12 ha, hw_i12 hb, hx_isBelow (fun x => br_t rfl ?_) (fun x => br_f (by decide) ?_)⟩)⟩
  · refine h2 ?_
    show hw_j (H a) (L a) = hw_j (H b) (L b)
    rw [z, y]
  · have y2 : ¬ hw_u (L a) = hw_u (L b) := fun w => y (hw_uinj w)
    rw [z] at ea
    exact h3 (by omega)
  · rw [z] at ea
    exact h1 (by omega)
  · have y2 : ¬ hw_u (H a) = hw_u (H b) := fun w => z (hw_uinj w)
    exact h3 (by omega)
  · exact h1 (by omega)
/-! compare -/
def hw_ucmp (x y : Int64) : Int32 := if x = y then 0 else if uN x < uN y then -1 else 1
def hw_scmp (x y : Int64) : Int32 := if x = y then 0 else if x < y then -1 else 1
theorem hx_cmp51 {post : SX → Prop} (hV : hw_V H L = V) {r : Int32} (hr : r = -1 ∨ r = 0 ∨ r = 1) (h : ∀ H' L', hw_V H' L' = vp_updL V 6 r.toInt64 → post (H', L', P, Q)) : wX_compare_51 post r H L P Q := by
  unfold wX_compare_51 wX_compare_64
  rcases hr with rfl | rfl | rfl
  · exact br_f (by decide) (hx_load (t := 6) hV (by decide) (fun H' L' e => h H' L' (e.trans (congrArg (vp_updL _ 6) (by decide)))))
  · exact br_t (by decide) (hx_load (t := 6) hV (by decide) (fun H' L' e => h H' L' (e.trans (congrArg (vp_updL _ 6) (by decide)))))
  · exact br_t (by decide) (hx_load (t := 6) hV (by decide) (fun H' L' e => h H' L' (e.trans (congrArg (vp_updL _ 6) (by decide)))))
theorem hx_ucompare {post : SX → Prop} (hV : hw_V H L = V) {a b : Nat} (ha : a < 12) (hb : b < 12) (h : ∀ H' L', hw_V H' L' = vp_updL V 6 (hw_ucmp (V a) (V b)).toInt64 → post (H', L', P, Q)) : wpX_compare post (H, L, P, Q) 12 (nI a) (nI b) := by
  unfold wpX_compare
  dsimp only
  refine hx_order hV ha hb (fun z => br_f (by decide) (hx_cmp51 hV (by decide) (fun H' L' e => h H' L' (e.trans ?_)))) (fun z => br_f (by decide) (hx_cmp51 hV (by decide) (fun H' L' e => h H' L' (e.trans ?_)))) (fun z => br_f (by decide) (hx_cmp51 hV (by decide) (fun H' L' e => h H' L' (e.trans ?_))))
  · have n : ¬ V a = V b := fun w => by rw [w] at z; omega
    unfold hw_ucmp
    rw [if_neg n, if_pos z]
  · unfold hw_ucmp
    rw [if_pos z]
  · have n : ¬ V a = V b := fun w => by rw [w] at z; omega
    unfold hw_ucmp
    rw [if_neg n, if_neg (by omega)]
theorem hw_slt (a b c d : Int32) (h : ¬ a = c) : hw_j a b < hw_j c d ↔ ¬ c ≤ a := by
  have h1 := hw_ult b
  have h2 := hw_ult d
  have h4 := hw_ult a
  have h5 := hw_ult c
  have h3 : ¬ hw_u a = hw_u c := fun z => h (hw_uinj z)
  rw [hw_Nlt, hw_le, hw_jN, hw_jN]
  omega
theorem hw_ult' (a b c d : Int32) (h : a = c) : hw_j a b < hw_j c d ↔ uN (hw_j a b) < uN (hw_j c d) := by
  subst h
  have h1 := hw_ult b
  have h2 := hw_ult d
  have h4 := hw_ult a
  rw [hw_Nlt, hw_jN, hw_jN]
  omega
theorem hx_scompare {post : SX → Prop} (hV : hw_V H L = V) {a b : Nat} (ha : a < 12) (hb : b < 12) (h : ∀ H' L', hw_V H' L' = vp_updL V 6 (hw_scmp (V a) (V b)).toInt64 → post (H', L', P, Q)) : wpX_compare post (H, L, P, Q) 11 (nI a) (nI b) := by
  subst hV
  unfold wpX_compare
  dsimp only
  rw [hw_c12 ha, hw_c12 hb]
  have hc : ∀ H' L' (r : Int32), hw_V H' L' = vp_updL (hw_V H L) 6 r.toInt64 → r = hw_scmp (hw_V H L a) (hw_V H L b) → post (H', L', P, Q) := fun H' L' r e er => h H' L' (by rw [e, er])
  have hn : ¬ H a = H b → (hw_scmp (hw_V H L a) (hw_V H L b) = if H b ≤ H a then 1 else -1) := by
    intro n
    have n2 : ¬ hw_V H L a = hw_V H L b := fun w => n (hw_jinj w).1
    have s : hw_V H L a < hw_V H L b ↔ ¬ H b ≤ H a := hw_slt (H a) (L a) (H b) (L b) n
    unfold hw_scmp
    rw [if_neg n2]
    by_cases c : H b ≤ H a
    · rw [if_pos c, if_neg (fun w => s.mp w c)]
    · rw [if_neg c, if_pos (s.mpr c)]
  have body : ∀ r : Int32, (r = -1 ∨ r = 0 ∨ r = 1) → (H a = H b → r = hw_scmp (hw_V H L a) (hw_V H L b)) → (H a = H b → wX_compare_51 post r H L P Q) ∧ (¬ H a = H b → vp_in (nI a) 12 ∧ vp_in (nI b) 12 ∧ (H b ≤ H a → wX_compare_49 post 1 H L P Q) ∧ (¬ H b ≤ H a → wX_compare_49 post (-1) H L P Q)) := by
    intro r hr he
    refine br_c (fun z => hx_cmp51 rfl hr (fun H' L' e => hc H' L' r e (he z))) (fun z => ⟨hw_i12 ha, hw_i12 hb, br_c (fun y => ?_) (fun y => ?_)⟩)
    · unfold wX_compare_49
      exact hx_cmp51 rfl (by decide) (fun H' L' e => hc H' L' 1 e (by rw [hn z, if_pos y]))
    · unfold wX_compare_49
      exact hx_cmp51 rfl (by decide) (fun H' L' e => hc H' L' (-1) e (by rw [hn z, if_neg y]))
  refine hx_order rfl ha hb (fun z => br_t rfl ⟨hw_i12 ha, hw_i12 hb, body (-1) (by decide) (fun w => ?_)⟩) (fun z => br_t rfl ⟨hw_i12 ha, hw_i12 hb, body 0 (by decide) (fun w => ?_)⟩) (fun z => br_t rfl ⟨hw_i12 ha, hw_i12 hb, body 1 (by decide) (fun w => ?_)⟩)
  · have n : ¬ hw_V H L a = hw_V H L b := fun w => by rw [w] at z; omega
    unfold hw_scmp
    have s : hw_V H L a < hw_V H L b ↔ uN (hw_V H L a) < uN (hw_V H L b) := hw_ult' (H a) (L a) (H b) (L b) w
    rw [if_neg n, if_pos (s.mpr z)]
  · unfold hw_scmp
    rw [if_pos z]
  · have n : ¬ hw_V H L a = hw_V H L b := fun w => by rw [w] at z; omega
    have s : hw_V H L a < hw_V H L b ↔ uN (hw_V H L a) < uN (hw_V H L b) := hw_ult' (H a) (L a) (H b) (L b) w
    unfold hw_scmp
    rw [if_neg n, if_neg (fun y => Nat.lt_asymm z (s.mp y))]
/-! shifts -/
theorem hx_shl {post : SX → Prop} (hV : hw_V H L = V) {a k : Nat} (ha : a < 12) (hk : k < 64) (h : ∀ H' L', hw_V H' L' = vp_updL V 6 (V a <<< ((nI k).toInt64 &&& 63)) → post (H', L', P, Q)) : wpX_shift post (H, L, P, Q) 8 (nI a) (nI k) := by
  subst hV
  unfold wpX_shift wX_shift_31 wX_shift_32
  dsimp only
  rw [hw_c12 ha]
  refine ⟨hw_i12 ha, nm_e ⟨hw_i12 ha, nm_e (br_f (by decide) ?_)⟩⟩
  refine pk_eq k 0 (fun z => ?_) (fun z => br_t rfl ?_)
  · subst z
    exact hx_load (t := 6) rfl (by decide) (fun H' L' e => h H' L' (e.trans (congrArg (vp_updL _ 6) (hw_sh0l _).symm)))
  · refine pk_lt k 32 (fun y => ?_) (fun y => ?_)
    · exact hx_load (t := 6) rfl (by decide) (fun H' L' e => h H' L' (e.trans (congrArg (vp_updL _ 6) (hw_shllo _ _ (by omega) y))))
    · exact hx_load (t := 6) rfl (by decide) (fun H' L' e => h H' L' (e.trans (congrArg (vp_updL _ 6) (hw_shlhi (H a) _ y hk))))
theorem hx_shr {post : SX → Prop} (hV : hw_V H L = V) {a k : Nat} (ha : a < 12) (hk : k < 64) (h : ∀ H' L', hw_V H' L' = vp_updL V 6 (V a >>> ((nI k).toInt64 &&& 63)) → post (H', L', P, Q)) : wpX_shift post (H, L, P, Q) 9 (nI a) (nI k) := by
  subst hV
  unfold wpX_shift wX_shift_31
  dsimp only
  rw [hw_c12 ha]
  have body : ∀ z0 : Int32, z0 = (if 0 ≤ H a then 0 else -1) → wX_shift_32 post 9 (nI k) (H a) (L a) z0 H L P Q := by
    intro z0 e0
    unfold wX_shift_32 wX_shift_165 wX_shift_139
    refine pk_eq k 0 (fun z => ?_) (fun z => br_f (by decide) ?_)
    · subst z
      exact hx_load (t := 6) rfl (by decide) (fun H' L' e => h H' L' (e.trans (congrArg (vp_updL _ 6) (hw_sh0s _).symm)))
    · refine pk_lt k 32 (fun y => br_t rfl ?_) (fun y => br_t rfl ?_)
      · exact hx_load (t := 6) rfl (by decide) (fun H' L' e => h H' L' (e.trans (congrArg (vp_updL _ 6) (hw_sshrlo _ _ (by omega) y))))
      · refine hx_load (t := 6) rfl (by decide) (fun H' L' e => h H' L' (e.trans (congrArg (vp_updL _ 6) ?_)))
        rw [e0]
        exact hw_sshrhi (H a) (L a) y hk
  refine ⟨hw_i12 ha, nm_e ⟨hw_i12 ha, nm_e (br_t rfl (br_c (fun z => ?_) (fun z => ?_)))⟩⟩
  · exact body 0 (by rw [if_pos z])
  · exact body (-1) (by rw [if_neg z])
theorem hx_ushr {post : SX → Prop} (hV : hw_V H L = V) {a k : Nat} (ha : a < 12) (hk : k < 64) (h : ∀ H' L', hw_V H' L' = vp_updL V 6 ((V a).toUInt64 >>> ((nI k).toInt64.toUInt64 &&& Int64.toUInt64 63)).toInt64 → post (H', L', P, Q)) : wpX_shift post (H, L, P, Q) 10 (nI a) (nI k) := by
  subst hV
  unfold wpX_shift wX_shift_31 wX_shift_32 wX_shift_165 wX_shift_139
  dsimp only
  rw [hw_c12 ha]
  refine ⟨hw_i12 ha, nm_e ⟨hw_i12 ha, nm_e (br_f (by decide) ?_)⟩⟩
  refine pk_eq k 0 (fun z => ?_) (fun z => br_f (by decide) ?_)
  · subst z
    exact hx_load (t := 6) rfl (by decide) (fun H' L' e => h H' L' (e.trans (congrArg (vp_updL _ 6) (hw_sh0u _).symm)))
  · refine pk_lt k 32 (fun y => br_f (by decide) ?_) (fun y => br_f (by decide) ?_)
    · exact hx_load (t := 6) rfl (by decide) (fun H' L' e => h H' L' (e.trans (congrArg (vp_updL _ 6) (hw_ushrlo _ _ (by omega) y))))
    · exact hx_load (t := 6) rfl (by decide) (fun H' L' e => h H' L' (e.trans (congrArg (vp_updL _ 6) (hw_ushrhi (H a) _ y hk))))
end
end
section
/-! products in pieces of sixteen bits -/
def hs_s (q : Nat → Nat) : Nat → Nat
  | 0 => 0
  | n + 1 => hs_s q n + q n * 65536 ^ n
def hs_up (q : Nat → Nat) (k r : Nat) : Nat → Nat := fun j => if j = k then r else q j
theorem hs_low (q : Nat → Nat) (k r : Nat) : ∀ n, n ≤ k → hs_s (hs_up q k r) n = hs_s q n := by
  intro n
  induction n with
  | zero => exact fun _ => rfl
  | succ n ih =>
    intro h
    show hs_s (hs_up q k r) n + hs_up q k r n * 65536 ^ n = hs_s q n + q n * 65536 ^ n
    have e : hs_up q k r n = q n := if_neg (by omega)
    rw [ih (by omega), e]
theorem hs_upd (q : Nat → Nat) (k r : Nat) : ∀ n, k < n → hs_s (hs_up q k r) n + q k * 65536 ^ k = hs_s q n + r * 65536 ^ k := by
  intro n
  induction n with
  | zero => exact fun h => absurd h (Nat.not_lt_zero _)
  | succ n ih =>
    intro h
    show hs_s (hs_up q k r) n + hs_up q k r n * 65536 ^ n + q k * 65536 ^ k = hs_s q n + q n * 65536 ^ n + r * 65536 ^ k
    by_cases e : n = k
    · subst e
      have e2 : hs_up q n r n = r := if_pos rfl
      rw [hs_low q n r n (Nat.le_refl _), e2]
      omega
    · have e2 : hs_up q k r n = q n := if_neg e
      have z := ih (by omega)
      rw [e2]
      omega
theorem hs_step {s s' S M M1 Xi Xj a b B qk r c c' : Nat} (hU : s' + qk * M = s + r * M) (hI : s + c * M = S + a * B * Xi) (ht : a * b + qk + c = r + c' * 65536) (hM : M = Xj * Xi) (hM1 : M1 = M * 65536) : s' + c' * M1 = S + a * (B + b * Xj) * Xi := by
  have h1 : (a * b + qk + c) * M = (r + c' * 65536) * M := by rw [ht]
  have e : a * (B + b * Xj) * Xi = a * B * Xi + a * b * M := by
    rw [hM, Nat.mul_add, Nat.add_mul, ← Nat.mul_assoc a b Xj, Nat.mul_assoc (a * b) Xj Xi]
  have e2 : c' * M1 = c' * 65536 * M := by rw [hM1, Nat.mul_comm M 65536, Nat.mul_assoc]
  rw [Nat.add_mul, Nat.add_mul, Nat.add_mul] at h1
  rw [e, e2]
  generalize a * B * Xi = y1 at hI ⊢
  generalize a * b * M = y2 at h1 ⊢
  generalize c' * 65536 * M = y3 at h1 ⊢
  generalize qk * M = y4 at hU h1
  generalize r * M = y5 at hU h1
  generalize c * M = y6 at hI h1
  omega
theorem hs_i (f : Nat → Nat) (s m a x : Nat) : s + 0 * m = s + a * hs_s f 0 * x := by
  rw [show hs_s f 0 = 0 from rfl, Nat.mul_zero, Nat.zero_mul, Nat.zero_mul]
theorem hs_z : hs_s (fun _ => 0) 8 = 0 := by
  rw [hs_s, hs_s, hs_s, hs_s, hs_s, hs_s, hs_s, hs_s, hs_s]
theorem hs_8 (q : Nat → Nat) : hs_s q 8 = q 0 + q 1 * 65536 + q 2 * 4294967296 + q 3 * 281474976710656 + q 4 * 18446744073709551616 + q 5 * 1208925819614629174706176 + q 6 * 79228162514264337593543950336 + q 7 * 5192296858534827628530496329220096 := by
  have e : hs_s q 8 = 0 + q 0 * 65536 ^ 0 + q 1 * 65536 ^ 1 + q 2 * 65536 ^ 2 + q 3 * 65536 ^ 3 + q 4 * 65536 ^ 4 + q 5 * 65536 ^ 5 + q 6 * 65536 ^ 6 + q 7 * 65536 ^ 7 := rfl
  rw [e]
  omega
theorem hs_4 (q : Nat → Nat) : hs_s q 4 = q 0 + q 1 * 65536 + q 2 * 4294967296 + q 3 * 281474976710656 := by
  have e : hs_s q 4 = 0 + q 0 * 65536 ^ 0 + q 1 * 65536 ^ 1 + q 2 * 65536 ^ 2 + q 3 * 65536 ^ 3 := rfl
  rw [e]
  omega
theorem hw_pair {x y : Nat} (hx : x < 65536) (hy : y < 65536) : (nI x <<< ((16 : Int32) &&& 31)) ||| nI y = nI (x * 65536 + y) := by
  apply hw_uinj
  have s1 : hw_u (nI x <<< ((16 : Int32) &&& 31)) = hw_u (nI x) * 65536 % 4294967296 := hw_ushl (n := 16) (by decide) (nI x)
  rw [hw_uor, s1, hw_un (by omega), hw_un (by omega), hw_un (by omega), Nat.mod_eq_of_lt (by omega)]
  have e := Nat.shiftLeft_add_eq_or_of_lt (i := 16) (b := y) hy x
  rw [Nat.shiftLeft_eq] at e
  exact e.symm
section
variable {H L P Q : Nat → Int32} {V : Nat → Int64}
theorem hx_cut {post : SX → Prop} {a t : Nat} (ht : t ≤ 4) (ha : a < 12) (h : ∀ P', P' t = nI (hw_u (L a) % 65536) → P' (t + 1) = nI (hw_u (L a) / 65536) → P' (t + 2) = nI (hw_u (H a) % 65536) → P' (t + 3) = nI (hw_u (H a) / 65536) → (∀ j, j < t → P' j = P j) → post (H, L, P', Q)) : wpX_cut post (H, L, P, Q) (nI t) (nI a) := by
  have s1 : ∀ x : Int32, (x &&& 65535) = nI (hw_u x % 65536) := fun x => pk_and x (m := 65535) 16 (by decide)
  have s2 : ∀ x : Int32, ((x.toUInt32 >>> ((16 : Int32).toUInt32 &&& Int32.toUInt32 31)).toInt32) = nI (hw_u x / 65536) := by
    intro x
    apply hw_uinj
    have := hw_ult x
    rw [hw_un (by omega)]
    exact hw_uushr (n := 16) (by decide) x
  have n1 : nI t + 1 = nI (t + 1) := nI_1 t
  have n2 : nI t + 2 = nI (t + 2) := nI_add t 2
  have n3 : nI t + 3 = nI (t + 3) := nI_add t 3
  unfold wpX_cut
  dsimp only
  rw [n1, n2, n3, hw_c12 ha, nI_clamp (n := t) (by omega), nI_clamp (n := t + 1) (by omega), nI_clamp (n := t + 2) (by omega), nI_clamp (n := t + 3) (by omega), s1, s1, s2, s2]
  refine ⟨hw_i12 ha, vp_in_nI (by omega) (by decide), fun p1 e1 => ⟨hw_i12 ha, vp_in_nI (by omega) (by decide), fun p2 e2 => ⟨hw_i12 ha, vp_in_nI (by omega) (by decide), fun p3 e3 => ⟨hw_i12 ha, vp_in_nI (by omega) (by decide), fun p4 e4 => ?_⟩⟩⟩⟩
  apply h p4
  · rw [e4, pk_un (by omega), e3, pk_un (by omega), e2, pk_un (by omega), e1, pk_us]
  · rw [e4, pk_un (by omega), e3, pk_un (by omega), e2, pk_us]
  · rw [e4, pk_un (by omega), e3, pk_us]
  · rw [e4, pk_us]
  · intro j hj
    rw [e4, pk_un (by omega), e3, pk_un (by omega), e2, pk_un (by omega), e1, pk_un (by omega)]
theorem hx_zero {post : SX → Prop} : ∀ d j, j + d = 8 → ∀ Q : Nat → Int32, (∀ k, k < j → Q k = 0) → (∀ Q' : Nat → Int32, (∀ k, k < 8 → Q' k = 0) → ∃ n, wX_multiplyPieces_35 post n 0 H L P Q') → wX_multiplyPieces_14 post (d + 1) (nI j) H L P Q := by
  intro d
  induction d with
  | zero =>
    intro j hj Q hQ h
    obtain rfl : j = 8 := by omega
    exact br_t (nI_le (a := 8) (by omega) (by decide)) (h Q hQ)
  | succ d ih =>
    intro j hj Q hQ h
    refine br_f (nI_ge (b := 8) (by omega) (by decide)) (And.intro (vp_in_nI (by omega) (by decide)) (fun Q1 e1 => nm_r (nI_1 j) ?_))
    refine ih (j + 1) (by omega) Q1 (fun k hk => ?_) h
    rw [nI_clamp (by omega)] at e1
    rw [e1]
    by_cases e : k = j
    · rw [e, pk_us]
    · rw [pk_un e]
      exact hQ k (by omega)
theorem hx_row {post : SX → Prop} {J : Int32 → (Nat → Int32) → (Nat → Int32) → (Nat → Int32) → (Nat → Int32) → Prop} {p : Nat → Nat} {i S : Nat} (hi : i < 4) (hp : ∀ k, k < 8 → p k < 65536 ∧ P k = nI (p k)) : ∀ d j, j + d = 4 → ∀ (c : Nat) (q : Nat → Nat) (Q : Nat → Int32), c < 65536 → (∀ k, k < 8 → q k < 65536 ∧ Q k = nI (q k)) → (∀ k, i + 4 ≤ k → q k = 0) → hs_s q 8 + c * 65536 ^ (j + i) = S + p i * hs_s (fun t => p (4 + t)) j * 65536 ^ i → (∀ (q' : Nat → Nat) (Q' : Nat → Int32), (∀ k, k < 8 → q' k < 65536 ∧ Q' k = nI (q' k)) → (∀ k, i + 5 ≤ k → q' k = 0) → hs_s q' 8 = S + p i * hs_s (fun t => p (4 + t)) 4 * 65536 ^ i → J (nI (i + 1)) H L P Q') → wX_multiplyPieces_46 post J (nI i) (d + 1) (nI c) (nI j) H L P Q := by
  intro d
  induction d with
  | zero =>
    intro j hj c q Q hc hq hz hI h
    obtain rfl : j = 4 := by omega
    have n4 : nI i + 4 = nI (i + 4) := nI_add i 4
    rw [wX_multiplyPieces_46]
    dsimp only
    rw [n4, nI_clamp (n := i + 4) (by omega)]
    refine br_t (nI_le (a := 4) (by omega) (by decide)) ⟨vp_in_nI (by omega) (by decide), fun Q1 e1 => nm_r (nI_1 i) ?_⟩
    refine h (hs_up q (i + 4) c) Q1 (fun k hk => ?_) (fun k hk => ?_) ?_
    · rw [e1]
      unfold hs_up upd
      by_cases e : k = i + 4
      · rw [if_pos e, if_pos e]
        exact ⟨hc, rfl⟩
      · rw [if_neg e, if_neg e]
        exact hq k hk
    · unfold hs_up
      rw [if_neg (by omega)]
      exact hz k (by omega)
    · have u := hs_upd q (i + 4) c 8 (by omega)
      rw [hz (i + 4) (by omega), Nat.zero_mul, Nat.add_zero] at u
      rw [u, ← hI, Nat.add_comm i 4]
  | succ d ih =>
    intro j hj c q Q hc hq hz hI h
    have n4 : 4 + nI j = nI (4 + j) := nI_add 4 j
    have nij : nI i + nI j = nI (i + j) := nI_add i j
    obtain ⟨pa, ea⟩ := hp i (by omega)
    obtain ⟨pb, eb⟩ := hp (4 + j) (by omega)
    obtain ⟨qc, ec⟩ := hq (i + j) (by omega)
    have hab : p i * p (4 + j) ≤ 65535 * 65535 := Nat.mul_le_mul (by omega) (by omega)
    have m16 : (65535 : Int32).toBitVec.toNat = 2 ^ 16 - 1 := by decide
    have su : ∀ n, n < 2 ^ 32 → ((nI n).toUInt32 >>> ((16 : Int32).toUInt32 &&& Int32.toUInt32 31)).toInt32 = nI (n / 65536) := fun n hn => pk_ushrN hn 16 16 (by decide)
    have sa : ∀ n, n < 2 ^ 32 → (nI n &&& 65535) = nI (n % 65536) := fun n hn => pk_andN hn 16 m16
    rw [wX_multiplyPieces_46]
    dsimp only
    rw [n4, nij, nI_clamp (n := i) (by omega), nI_clamp (n := 4 + j) (by omega), nI_clamp (n := i + j) (by omega), ea, eb, ec, pk_mul]
    generalize hx : p i * p (4 + j) = ab at hab
    refine br_f (nI_ge (b := 4) (by omega) (by decide)) ⟨vp_in_nI (by omega) (by decide), vp_in_nI (by omega) (by decide), nm_e ⟨vp_in_nI (by omega) (by decide), ?_⟩⟩
    rw [sa ab (by omega), nI_add, nI_add]
    refine nm_e ⟨vp_in_nI (by omega) (by decide), fun Q1 e1 => ?_⟩
    rw [sa _ (by omega)] at e1
    rw [su ab (by omega), su _ (by omega), nI_add]
    refine nm_e (nm_r (nI_1 j) ?_)
    generalize ht : ab + q (i + j) + c = t
    have hr : (ab % 65536 + q (i + j) + c) % 65536 = t % 65536 := by omega
    have hc' : ab / 65536 + (ab % 65536 + q (i + j) + c) / 65536 = t / 65536 := by omega
    rw [hr] at e1
    rw [hc']
    refine ih (j + 1) (by omega) (t / 65536) (hs_up q (i + j) (t % 65536)) Q1 (by omega) (fun k hk => ?_) (fun k hk => ?_) ?_ h
    · rw [e1]
      unfold hs_up upd
      by_cases e : k = i + j
      · rw [if_pos e, if_pos e]
        exact ⟨by omega, rfl⟩
      · rw [if_neg e, if_neg e]
        exact hq k hk
    · unfold hs_up
      rw [if_neg (by omega)]
      exact hz k hk
    · have u := hs_upd q (i + j) (t % 65536) 8 (by omega)
      rw [Nat.add_comm i j] at u ⊢
      refine hs_step (b := p (4 + j)) (Xj := 65536 ^ j) u hI ?_ (Nat.pow_add _ _ _) ?_
      · rw [hx, Nat.add_comm j i]
        omega
      · rw [show j + 1 + i = j + i + 1 by omega, Nat.pow_succ]
theorem hx_rows {post : SX → Prop} {p : Nat → Nat} (hp : ∀ k, k < 8 → p k < 65536 ∧ P k = nI (p k)) (h : ∀ (q' : Nat → Nat) (Q' : Nat → Int32), (∀ k, k < 8 → q' k < 65536 ∧ Q' k = nI (q' k)) → hs_s q' 8 = hs_s p 4 * hs_s (fun t => p (4 + t)) 4 → post (H, L, P, Q')) : ∀ d i, i + d = 4 → ∀ (q : Nat → Nat) (Q : Nat → Int32), (∀ k, k < 8 → q k < 65536 ∧ Q k = nI (q k)) → (∀ k, i + 4 ≤ k → q k = 0) → hs_s q 8 = hs_s p i * hs_s (fun t => p (4 + t)) 4 → wX_multiplyPieces_35 post (d + 1) (nI i) H L P Q := by
  intro d
  induction d with
  | zero =>
    intro i hi q Q hq hz hI
    obtain rfl : i = 4 := by omega
    exact br_t (nI_le (a := 4) (by omega) (by decide)) (h q Q hq hI)
  | succ d ih =>
    intro i hi q Q hq hz hI
    refine br_f (nI_ge (b := 4) (by omega) (by decide)) ⟨4 + 1, ?_⟩
    refine hx_row (S := hs_s q 8) (by omega) hp 4 0 rfl 0 q Q (by decide) hq hz (hs_i _ _ _ _ _) (fun q' Q' hq' hz' hI' => ?_)
    refine ih (i + 1) (by omega) q' Q' hq' (fun k hk => hz' k (by omega)) ?_
    rw [hI', hI]
    show _ = (hs_s p i + p i * 65536 ^ i) * _
    rw [Nat.add_mul, Nat.mul_right_comm]
theorem hx_pieces {post : SX → Prop} (hV : hw_V H L = V) {a b : Nat} (ha : a < 12) (hb : b < 12) (h : ∀ (P' Q' : Nat → Int32) (q : Nat → Nat), (∀ k, k < 8 → q k < 65536 ∧ Q' k = nI (q k)) → hs_s q 8 = uN (V a) * uN (V b) → post (H, L, P', Q')) : wpX_multiplyPieces post (H, L, P, Q) (nI a) (nI b) := by
  subst hV
  unfold wpX_multiplyPieces
  dsimp only
  refine hx_cut (t := 0) (by decide) ha (fun P1 h0 h1 h2 h3 _ => ?_)
  refine hx_cut (t := 4) (by decide) hb (fun P2 g0 g1 g2 g3 gk => ?_)
  dsimp only at g0 g1 g2 g3 gk ⊢
  rw [← gk 0 (by decide)] at h0
  rw [← gk 1 (by decide)] at h1
  rw [← gk 2 (by decide)] at h2
  rw [← gk 3 (by decide)] at h3
  have la := hw_ult (L a)
  have ua := hw_ult (H a)
  have lb := hw_ult (L b)
  have ub := hw_ult (H b)
  have k0 : hw_u (P2 0) = hw_u (L a) % 65536 := by rw [h0, hw_un (by omega)]
  have k1 : hw_u (P2 1) = hw_u (L a) / 65536 := by rw [h1, hw_un (by omega)]
  have k2 : hw_u (P2 2) = hw_u (H a) % 65536 := by rw [h2, hw_un (by omega)]
  have k3 : hw_u (P2 3) = hw_u (H a) / 65536 := by rw [h3, hw_un (by omega)]
  have k4 : hw_u (P2 4) = hw_u (L b) % 65536 := by rw [g0, hw_un (by omega)]
  have k5 : hw_u (P2 5) = hw_u (L b) / 65536 := by rw [g1, hw_un (by omega)]
  have k6 : hw_u (P2 6) = hw_u (H b) % 65536 := by rw [g2, hw_un (by omega)]
  have k7 : hw_u (P2 7) = hw_u (H b) / 65536 := by rw [g3, hw_un (by omega)]
  have hp : ∀ k, k < 8 → (fun k => hw_u (P2 k)) k < 65536 ∧ P2 k = nI ((fun k => hw_u (P2 k)) k) := by
    intro k hk
    refine ⟨?_, (hw_nu _).symm⟩
    show hw_u (P2 k) < 65536
    have hc : k = 0 ∨ k = 1 ∨ k = 2 ∨ k = 3 ∨ k = 4 ∨ k = 5 ∨ k = 6 ∨ k = 7 := by omega
    rcases hc with rfl | rfl | rfl | rfl | rfl | rfl | rfl | rfl <;> omega
  refine ⟨8 + 1, hx_zero 8 0 rfl Q (fun k hk => absurd hk (Nat.not_lt_zero k)) (fun Q' hQ' => ⟨4 + 1, ?_⟩)⟩
  refine hx_rows hp (fun q' Q'' hq' hI' => h P2 Q'' q' hq' ?_) 4 0 rfl (fun _ => 0) Q' (fun k hk => ⟨by decide, hQ' k hk⟩) (fun _ _ => rfl) (hs_z.trans (Nat.zero_mul _).symm)
  have eA : hs_s (fun k => hw_u (P2 k)) 4 = uN (hw_V H L a) := by
    rw [hs_4]
    show hw_u (P2 0) + hw_u (P2 1) * 65536 + hw_u (P2 2) * 4294967296 + hw_u (P2 3) * 281474976710656 = uN (hw_j (H a) (L a))
    rw [hw_jN]
    omega
  have eB : hs_s (fun t => (fun k => hw_u (P2 k)) (4 + t)) 4 = uN (hw_V H L b) := by
    rw [hs_4]
    show hw_u (P2 4) + hw_u (P2 5) * 65536 + hw_u (P2 6) * 4294967296 + hw_u (P2 7) * 281474976710656 = uN (hw_j (H b) (L b))
    rw [hw_jN]
    omega
  rw [hI', eA, eB]
theorem hx_multiply {post : SX → Prop} (hV : hw_V H L = V) {a b : Nat} (ha : a < 12) (hb : b < 12) (h : ∀ H' L' P' Q', hw_V H' L' = vp_updL V 6 (V a * V b) → post (H', L', P', Q')) : wpX_multiply post (H, L, P, Q) (nI a) (nI b) := by
  unfold wpX_multiply
  dsimp only
  refine hx_pieces hV ha hb (fun P' Q' q hq hI => ?_)
  obtain ⟨b0, e0⟩ := hq 0 (by decide)
  obtain ⟨b1, e1⟩ := hq 1 (by decide)
  obtain ⟨b2, e2⟩ := hq 2 (by decide)
  obtain ⟨b3, e3⟩ := hq 3 (by decide)
  dsimp only
  refine hx_load (t := 6) hV (by decide) (fun H' L' e => h H' L' P' Q' (e.trans (congrArg (vp_updL _ 6) ?_)))
  rw [e0, e1, e2, e3, hw_pair b3 b2, hw_pair b1 b0]
  apply uN_inj
  rw [hw_jN, uN_mul, hw_un (by omega), hw_un (by omega), ← hI, hs_8]
  omega
/-! the upper half of a product with sign -/
def hw_mulh (x y : Int64) : Int64 := lN (x.toInt * y.toInt / 18446744073709551616 % 18446744073709551616).toNat
theorem hw_mulhN (x y : Int64) : (uN (hw_mulh x y) : Int) = x.toInt * y.toInt / 18446744073709551616 % 18446744073709551616 := by
  unfold hw_mulh
  generalize x.toInt * y.toInt / 18446744073709551616 = t
  rw [hw_NlN (by omega)]
  omega
theorem hw_mulhX (x y l : Int64) (hl : uN l = uN x * uN y / 18446744073709551616) : (if 0 ≤ y then (if 0 ≤ x then l else l - y) else (if 0 ≤ x then l else l - y) - x) = hw_mulh x y := by
  have m := hw_mulhN x y
  have hx := uN_lt x
  have hy := uN_lt y
  have hll := uN_lt l
  have px := hw_Npos x
  have py := hw_Npos y
  rw [uN_int x, uN_int y] at m
  rw [hw_Neq]
  by_cases c1 : 0 ≤ x
  · by_cases c2 : 0 ≤ y
    · have d1 := px.mp c1
      have d2 := py.mp c2
      rw [if_pos c2, if_pos c1]
      rw [if_pos (by omega), if_pos (by omega), ← Int.natCast_mul] at m
      generalize uN x * uN y = p at m hl
      omega
    · have d1 := px.mp c1
      have d2 : ¬ uN y < 9223372036854775808 := fun w => c2 (py.mpr w)
      rw [if_neg c2, if_pos c1, hw_Nsub]
      rw [if_pos (by omega), if_neg (by omega), Int.mul_sub, ← Int.natCast_mul] at m
      generalize uN x * uN y = p at m hl
      omega
  · by_cases c2 : 0 ≤ y
    · have d1 : ¬ uN x < 9223372036854775808 := fun w => c1 (px.mpr w)
      have d2 := py.mp c2
      rw [if_pos c2, if_neg c1, hw_Nsub]
      rw [if_neg (by omega), if_pos (by omega), Int.sub_mul, ← Int.natCast_mul] at m
      generalize uN x * uN y = p at m hl
      omega
    · have d1 : ¬ uN x < 9223372036854775808 := fun w => c1 (px.mpr w)
      have d2 : ¬ uN y < 9223372036854775808 := fun w => c2 (py.mpr w)
      rw [if_neg c2, if_neg c1, hw_Nsub, hw_Nsub]
      rw [if_neg (by omega), if_neg (by omega), Int.sub_mul, Int.mul_sub, Int.mul_sub, ← Int.natCast_mul] at m
      generalize uN x * uN y = p at m hl
      omega
theorem hx_mh94 {post : SX → Prop} (hV : hw_V H L = V) (h : ∀ H' L', hw_V H' L' = vp_updL V 6 (V 8) → post (H', L', P, Q)) : wX_multiplyHigh_94 post H L P Q := by
  unfold wX_multiplyHigh_94
  exact hx_copy (t := 6) (f := 8) hV (by decide) (by decide) h
theorem hx_mh70 {post : SX → Prop} (hV : hw_V H L = V) {a b : Nat} (ha : a < 6) (hb : b < 6) (h : ∀ H' L', hw_V H' L' 6 = (if 0 ≤ V b then V 8 else V 8 - V a) → (∀ i, i < 6 → hw_V H' L' i = V i) → post (H', L', P, Q)) : wX_multiplyHigh_70 post (nI a) (nI b) H L P Q := by
  unfold wX_multiplyHigh_70
  rw [hw_c12 (show b < 12 by omega)]
  have hp := hw_jpos (H b) (L b)
  have hq : hw_j (H b) (L b) = V b := congrFun hV b
  rw [hq] at hp
  refine ⟨hw_i12 (by omega), br_c (fun z => ?_) (fun z => ?_)⟩
  · refine hx_mh94 hV (fun H' L' e => h H' L' ?_ (fun i hi => ?_))
    · rw [e, pk_uLs, if_pos (hp.mp z)]
    · rw [e, pk_uLn (by omega)]
  · refine hx_subtract (a := 8) hV (by decide) (by omega) (fun H1 L1 e1 => ?_)
    refine hx_copy (t := 8) (f := 6) e1 (by decide) (by decide) (fun H2 L2 e2 => ?_)
    refine hx_mh94 e2 (fun H' L' e => h H' L' ?_ (fun i hi => ?_))
    · rw [e, pk_uLs, pk_uLs, pk_uLs, if_neg (fun w => z (hp.mpr w))]
    · rw [e, pk_uLn (by omega), pk_uLn (by omega), pk_uLn (by omega)]
theorem hx_multiplyHigh {post : SX → Prop} (hV : hw_V H L = V) {a b : Nat} (ha : a < 6) (hb : b < 6) (h : ∀ H' L' P' Q', hw_V H' L' 6 = hw_mulh (V a) (V b) → (∀ i, i < 6 → hw_V H' L' i = V i) → post (H', L', P', Q')) : wpX_multiplyHigh post (H, L, P, Q) (nI a) (nI b) := by
  unfold wpX_multiplyHigh
  dsimp only
  refine hx_pieces hV (by omega) (by omega) (fun P' Q' q hq hI => ?_)
  obtain ⟨b0, e0⟩ := hq 0 (by decide)
  obtain ⟨b1, e1⟩ := hq 1 (by decide)
  obtain ⟨b2, e2⟩ := hq 2 (by decide)
  obtain ⟨b3, e3⟩ := hq 3 (by decide)
  obtain ⟨b4, e4⟩ := hq 4 (by decide)
  obtain ⟨b5, e5⟩ := hq 5 (by decide)
  obtain ⟨b6, e6⟩ := hq 6 (by decide)
  obtain ⟨b7, e7⟩ := hq 7 (by decide)
  dsimp only
  rw [e4, e5, e6, e7, hw_pair b7 b6, hw_pair b5 b4]
  have hl : uN (hw_j (nI (q 7 * 65536 + q 6)) (nI (q 5 * 65536 + q 4))) = uN (V a) * uN (V b) / 18446744073709551616 := by
    rw [hw_jN, hw_un (by omega), hw_un (by omega), ← hI, hs_8]
    omega
  have law := hw_mulhX (V a) (V b) _ hl
  refine hx_load (t := 8) hV (by decide) (fun H1 L1 f1 => ?_)
  generalize hw_j (nI (q 7 * 65536 + q 6)) (nI (q 5 * 65536 + q 4)) = l at law f1
  dsimp only
  rw [hw_c12 (show a < 12 by omega)]
  have hp := hw_jpos (H1 a) (L1 a)
  have hq : hw_j (H1 a) (L1 a) = V a := (congrFun f1 a).trans (pk_uLn (by omega))
  rw [hq] at hp
  refine ⟨hw_i12 (by omega), br_c (fun z => ?_) (fun z => ?_)⟩
  · refine hx_mh70 f1 ha hb (fun H' L' g6 gk => h H' L' P' Q' ?_ (fun i hi => ?_))
    · rw [g6, ← law, pk_uLs, pk_uLn (by omega), pk_uLn (by omega), if_pos (hp.mp z)]
    · rw [gk i hi, pk_uLn (by omega)]
  · refine hx_subtract (a := 8) f1 (by decide) (by omega) (fun H2 L2 f2 => ?_)
    refine hx_copy (t := 8) (f := 6) f2 (by decide) (by decide) (fun H3 L3 f3 => ?_)
    refine hx_mh70 f3 ha hb (fun H' L' g6 gk => h H' L' P' Q' ?_ (fun i hi => ?_))
    · rw [g6, ← law, if_neg (fun w => z (hp.mpr w))]
      simp only [pk_uLs]
      rw [pk_uLn (by omega), pk_uLn (by omega), pk_uLn (by omega), pk_uLn (by omega), pk_uLn (by omega), pk_uLn (by omega)]
    · rw [gk i hi, pk_uLn (by omega), pk_uLn (by omega), pk_uLn (by omega)]
end
end
section
/-! division bit by bit, both sides -/
theorem hd_half (A k : Nat) : A / 2 ^ k = 2 * (A / 2 ^ (k + 1)) + A / 2 ^ k % 2 := by
  rw [Nat.pow_succ, ← Nat.div_div_eq_div_mul]
  generalize A / 2 ^ k = x
  omega
theorem hd_s0 {A B k q r : Nat} (h : A / 2 ^ (k + 1) = B * q + r) : A / 2 ^ k = B * (2 * q) + (2 * r + A / 2 ^ k % 2) := by
  have e := hd_half A k
  rw [h] at e
  rw [Nat.mul_left_comm]
  generalize B * q = y at e ⊢
  generalize A / 2 ^ k = x at e ⊢
  omega
theorem hd_s1 {A B k q r : Nat} (h : A / 2 ^ (k + 1) = B * q + r) (hr : B ≤ 2 * r + A / 2 ^ k % 2) : A / 2 ^ k = B * (2 * q + 1) + (2 * r + A / 2 ^ k % 2 - B) := by
  have e := hd_s0 h
  rw [Nat.mul_add, Nat.mul_one]
  generalize B * (2 * q) = y at e ⊢
  generalize A / 2 ^ k = x at e hr ⊢
  omega
theorem hd_q0 (q k : Nat) : q * 2 ^ (k + 1) = 2 * q * 2 ^ k := by
  rw [Nat.pow_succ, Nat.mul_comm (2 ^ k) 2, ← Nat.mul_assoc, Nat.mul_comm q 2]
theorem hd_q1 (q k : Nat) : q * 2 ^ (k + 1) + 2 ^ k = (2 * q + 1) * 2 ^ k := by
  rw [hd_q0, Nat.add_mul, Nat.one_mul]
theorem hd_end {A B q r : Nat} (h : A / 2 ^ 0 = B * q + r) (hr : r < B) : q = A / B ∧ r = A % B := by
  rw [Nat.pow_zero, Nat.div_one] at h
  rw [h, Nat.mul_add_div (by omega), Nat.mul_add_mod, Nat.div_eq_of_lt hr, Nat.mod_eq_of_lt hr]
  exact ⟨rfl, rfl⟩
/-- a counter that runs down: k steps are left -/
def hw_c (k : Nat) : Int32 := nI k + (-1)
theorem hw_c0 : hw_c 0 = -1 := by decide
theorem hw_cs (k : Nat) : hw_c (k + 1) = nI k := pk_m1 k
section
variable {H L P Q : Nat → Int32} {V : Nat → Int64}
theorem hx_div104 {post : SX → Prop} {J : Int32 → Int32 → Int32 → (Nat → Int32) → (Nat → Int32) → (Nat → Int32) → (Nat → Int32) → Prop} (hV : hw_V H L = V) {b k q : Nat} {x1 x3 x4 : Int32} (hb : b < 12) (hk : k < 64) (hq : uN (hw_j x3 x4) = q * 2 ^ (k + 1)) (h : ∀ y3 y4 H' L', uN (hw_j y3 y4) = q * 2 ^ (k + 1) + 2 ^ k → hw_V H' L' 7 = V 7 - V b → (∀ i, i ≠ 6 → i ≠ 7 → hw_V H' L' i = V i) → J y3 y4 (hw_c k) H' L' P Q) : wX_divideUnsigned_104 post J x1 (nI b) x3 x4 (nI k) H L P Q := by
  unfold wX_divideUnsigned_104
  refine hx_subtract (a := 7) hV (by decide) hb (fun H1 L1 e1 => ?_)
  refine hx_copy (t := 7) (f := 6) e1 (by decide) (by decide) (fun H2 L2 e2 => ?_)
  have e7 : hw_V H2 L2 7 = V 7 - V b := by rw [e2, pk_uLs, pk_uLs]
  have ek : ∀ i, i ≠ 6 → i ≠ 7 → hw_V H2 L2 i = V i := fun i h6 h7 => by rw [e2, pk_uLn h7, pk_uLn h6]
  by_cases c : k < 32
  · exact br_t (nI_lt (b := 32) c (by decide)) (nm_e (nm_e (h x3 _ H2 L2 (hw_setlo x3 x4 c hq) e7 ek)))
  · exact br_f (nI_nlt (b := 32) (by omega) (by omega)) (nm_e (nm_e (h _ x4 H2 L2 (hw_sethi x3 x4 (by omega) hk hq) e7 ek)))
theorem hx_div17 {post : SX → Prop} {a b : Nat} {A B : Int64} {V0 : Nat → Int64} (ha : a < 12) (hb : b < 12) (ha6 : a ≠ 6) (ha7 : a ≠ 7) (hb6 : b ≠ 6) (hb7 : b ≠ 7) (hA : V0 a = A) (hB : V0 b = B) (h : ∀ H' L', hw_V H' L' = vp_updL (vp_updL V0 7 (lN (uN A % uN B))) 6 (lN (uN A / uN B)) → post (H', L', P, Q)) : ∀ k, k ≤ 64 → ∀ (x3 x4 : Int32) (H L : Nat → Int32) (q r : Nat), (∀ i, i ≠ 6 → i ≠ 7 → hw_V H L i = V0 i) → uN A / 2 ^ k = uN B * q + r → r < uN B → uN (hw_V H L 7) = r → uN (hw_j x3 x4) = q * 2 ^ k → wX_divideUnsigned_17 post (nI a) (nI b) (k + 1) x3 x4 (hw_c k) H L P Q := by
  intro k
  induction k with
  | zero =>
    intro _ x3 x4 H L q r hk hAq hr h7 hq
    obtain ⟨e1, e2⟩ := hd_end hAq hr
    rw [hw_c0]
    refine br_t (by decide) (hx_load (t := 6) rfl (by decide) (fun H' L' e => h H' L' ?_))
    rw [e]
    funext i
    by_cases c6 : i = 6
    · subst c6
      rw [pk_uLs, pk_uLs]
      apply uN_inj
      have hl := uN_lt A
      have hd := Nat.div_le_self (uN A) (uN B)
      rw [hq, hw_NlN (by omega), ← e1, Nat.pow_zero, Nat.mul_one]
    · rw [pk_uLn c6, pk_uLn c6]
      by_cases c7 : i = 7
      · subst c7
        rw [pk_uLs]
        apply uN_inj
        have hl := uN_lt B
        rw [h7, e2, hw_NlN (by omega)]
      · rw [pk_uLn c7]
        exact hk i c6 c7
  | succ k ih =>
    intro hk64 x3 x4 H L q r hk hAq hr h7 hq
    have ih := ih (by omega)
    have hAa : hw_V H L a = A := (hk a ha6 ha7).trans hA
    have hbit : uN A / 2 ^ k % 2 < 2 := Nat.mod_lt _ (by decide)
    have hp := hw_jpos (H 7) (L 7)
    rw [hw_Npos] at hp
    have h7' : uN (hw_j (H 7) (L 7)) = r := h7
    have hBl := uN_lt B
    rw [h7'] at hp
    rw [hw_cs]
    have body : ∀ z0 : Int32, (z0 = 0 ∧ r < 9223372036854775808) ∨ (¬ z0 = 0 ∧ 9223372036854775808 ≤ r) → wX_divideUnsigned_37 post (wX_divideUnsigned_17 post (nI a) (nI b) (k + 1)) (nI a) (nI b) x3 x4 (nI k) z0 H L P Q := by
      intro z0 hz
      unfold wX_divideUnsigned_37
      refine hx_bitOf rfl ha (by omega) ?_
      dsimp only
      rw [hAa]
      generalize hbt : uN A / 2 ^ k % 2 = bit at hbit
      refine hx_load (t := 7) rfl (by decide) (fun H1 L1 e1 => ?_)
      have d := hw_dbl (H 7) (L 7) hbit
      rw [h7'] at d
      have e17 : uN (hw_V H1 L1 7) = (2 * r + bit) % 18446744073709551616 := by
        rw [e1, pk_uLs]
        exact d
      have ek : ∀ i, i ≠ 6 → i ≠ 7 → hw_V H1 L1 i = V0 i := fun i h6 h7 => by rw [e1, pk_uLn h7, hk i h6 h7]
      have eb : hw_V H1 L1 b = B := (ek b hb6 hb7).trans hB
      have sub : uN B ≤ 2 * r + bit → wX_divideUnsigned_104 post (wX_divideUnsigned_17 post (nI a) (nI b) (k + 1)) (nI a) (nI b) x3 x4 (nI k) H1 L1 P Q := by
        intro hge
        refine hx_div104 rfl hb (by omega) hq (fun y3 y4 H' L' f1 f2 f3 => ?_)
        have s1 := hd_s1 hAq (by rw [hbt]; exact hge)
        rw [hbt] at s1
        refine ih y3 y4 H' L' (2 * q + 1) (2 * r + bit - uN B) (fun i h6 h7 => by rw [f3 i h6 h7, ek i h6 h7]) s1 (by omega) ?_ (by rw [f1, hd_q1])
        rw [f2, hw_Nsub, e17, eb]
        omega
      refine br_c (fun z => ?_) (fun z => ?_)
      · have hr2 : r < 9223372036854775808 := by
          rcases hz with ⟨_, y⟩ | ⟨y, _⟩
          · exact y
          · exact absurd z y
        rw [Nat.mod_eq_of_lt (by omega)] at e17
        refine hx_order (a := 7) rfl (by decide) hb (fun y => br_f (by decide) (nm_e ?_)) (fun y => br_t (by decide) (sub ?_)) (fun y => br_t (by decide) (sub ?_))
        · rw [e17, eb] at y
          have s0 := hd_s0 hAq
          rw [hbt] at s0
          exact ih x3 x4 H1 L1 (2 * q) (2 * r + bit) ek s0 y e17 (by rw [hq, hd_q0])
        · rw [← e17, y, eb]
          exact Nat.le_refl _
        · rw [e17, eb] at y
          omega
      · have hr2 : 9223372036854775808 ≤ r := by
          rcases hz with ⟨y, _⟩ | ⟨_, y⟩
          · exact absurd y z
          · exact y
        exact sub (by omega)
    refine br_f (nI_pos (by omega)) (br_c (fun z => ?_) (fun z => ?_))
    · exact body 0 (Or.inl ⟨rfl, hp.mp z⟩)
    · exact body 1 (Or.inr ⟨by decide, Nat.le_of_not_lt (fun w => z (hp.mpr w))⟩)
theorem hx_divU {post : SX → Prop} (hV : hw_V H L = V) {a b : Nat} (ha : a < 12) (hb : b < 12) (ha6 : a ≠ 6) (ha7 : a ≠ 7) (hb6 : b ≠ 6) (hb7 : b ≠ 7) (hB : ¬ V b = 0) (h : ∀ H' L', hw_V H' L' = vp_updL (vp_updL V 7 (lN (uN (V a) % uN (V b)))) 6 (lN (uN (V a) / uN (V b))) → post (H', L', P, Q)) : wpX_divideUnsigned post (H, L, P, Q) (nI a) (nI b) := by
  have hB0 : 0 < uN (V b) := Nat.pos_of_ne_zero (fun w => hB (uN_inj w))
  unfold wpX_divideUnsigned
  dsimp only
  refine hx_load (t := 7) hV (by decide) (fun H1 L1 e1 => ⟨64 + 1, ?_⟩)
  have z : hw_j 0 0 = 0 := by decide
  refine hx_div17 ha hb ha6 ha7 hb6 hb7 rfl rfl h 64 (by decide) 0 0 H1 L1 0 0 (fun i h6 h7 => by rw [e1, pk_uLn h7]) ?_ hB0 ?_ ?_
  · rw [Nat.mul_zero]
    exact Nat.div_eq_of_lt (uN_lt _)
  · rw [e1, pk_uLs, z]
    rfl
  · rw [z, Nat.zero_mul]
    rfl
end
/-! the reference -/
theorem hw_Nand1 (x : Int64) : uN (x &&& 1) = uN x % 2 := by
  show (x.toUInt64 &&& Int64.toUInt64 1).toNat = _
  rw [UInt64.toNat_and]
  exact Nat.and_two_pow_sub_one_eq_mod _ 1
theorem hw_Nbit (x : Int64) {k : Nat} (hk : k < 64) : uN (((x.toUInt64 >>> ((nI k).toInt64.toUInt64 &&& Int64.toUInt64 63)).toInt64) &&& 1) = uN x / 2 ^ k % 2 := by
  rw [hw_Nand1, uN_sk x hk]
theorem hw_Nor (x y : Int64) : uN (x ||| y) = uN x ||| uN y := UInt64.toNat_or _ _
theorem hw_N1s {k : Nat} (hk : k < 64) : uN ((1 : Int64) <<< ((nI k).toInt64 &&& 63)) = 2 ^ k := by
  have e : (1 : Int64) <<< ((nI k).toInt64 &&& 63) = lN (1 * 2 ^ k) := wb_shl 1 hk
  rw [e, Nat.one_mul]
  exact hw_NlN (Nat.pow_lt_pow_right (by decide) hk)
section
variable {f0 f1 f2 f3 f4 f5 : Int64}
theorem hy_below {pp : Int32 → Prop} {p q : Int64} (h1 : uN p < uN q → pp 1) (h0 : uN q ≤ uN p → pp 0) : wpY_below pp (f0, f1, f2, f3, f4, f5) p q := by
  have hp := uN_lt p
  have hq := uN_lt q
  refine br_c (fun z => br_c (fun y => h1 ?_) (fun y => br_c (fun x => h0 ?_) (fun x => h1 ?_))) (fun z => br_c (fun y => h0 ?_) (fun y => br_c (fun x => h0 ?_) (fun x => h1 ?_)))
  all_goals
    simp only [hw_Npos, hw_Nlt0, hw_Nle, hw_N0] at *
    omega
theorem hy_div57 {post : Int64 → Prop} {J : Int64 → Int64 → Int32 → Prop} {x1 x3 x6 x8 : Int64} {x5 : Int32} {k q : Nat} (hk : k < 64) (hq : uN x6 = q * 2 ^ (k + 1)) (h : ∀ y6, uN y6 = q * 2 ^ (k + 1) + 2 ^ k → J y6 (x8 - x3) (hw_c k)) : wY_divide_57 post J x1 x3 x5 x6 x8 (nI k) f0 f1 f2 f3 f4 f5 := by
  refine nm_e (nm_e (nm_e (h _ ?_)))
  rw [hw_Nor, hw_N1s hk, hq, hw_setN]
theorem hy_div10 {post : Int64 → Prop} {A B : Int64} {x5 : Int32} (h0 : x5 = 0 → post (lN (uN A / uN B))) (h1 : ¬ x5 = 0 → post (lN (uN A % uN B))) : ∀ k, k ≤ 64 → ∀ (x6 x8 : Int64) (q r : Nat), uN A / 2 ^ k = uN B * q + r → r < uN B → uN x8 = r → uN x6 = q * 2 ^ k → wY_divide_10 post A B x5 f0 f1 f2 f3 f4 f5 (k + 1) x6 x8 (hw_c k) := by
  intro k
  induction k with
  | zero =>
    intro _ x6 x8 q r hAq hr h8 hq
    obtain ⟨e1, e2⟩ := hd_end hAq hr
    have hl := uN_lt A
    have hm := uN_lt B
    have hd := Nat.div_le_self (uN A) (uN B)
    have g6 : x6 = lN (uN A / uN B) := by
      apply uN_inj
      rw [hq, hw_NlN (by omega), ← e1, Nat.pow_zero, Nat.mul_one]
    have g8 : x8 = lN (uN A % uN B) := by
      apply uN_inj
      rw [h8, e2, hw_NlN (by omega)]
    rw [hw_c0, g6, g8]
    exact br_t (by decide) (br_c h0 h1)
  | succ k ih =>
    intro hk64 x6 x8 q r hAq hr h8 hq
    have ih := ih (by omega)
    have hbit : uN A / 2 ^ k % 2 < 2 := Nat.mod_lt _ (by decide)
    have hBl := uN_lt B
    have hp := hw_Npos x8
    rw [h8] at hp
    rw [hw_cs]
    have body : ∀ z0 : Int32, (z0 = 0 ∧ r < 9223372036854775808) ∨ (¬ z0 = 0 ∧ 9223372036854775808 ≤ r) → wY_divide_27 post (wY_divide_10 post A B x5 f0 f1 f2 f3 f4 f5 (k + 1)) A B x5 x6 x8 (nI k) z0 f0 f1 f2 f3 f4 f5 := by
      intro z0 hz
      refine fun y8 e8 => ?_
      have g8 : uN y8 = (2 * r) % 18446744073709551616 + uN A / 2 ^ k % 2 := by
        rw [e8, uN_or (by rw [hw_Nbit A (by omega)]; exact hbit), hw_Nbit A (by omega), h8]
      generalize hbt : uN A / 2 ^ k % 2 = bit at hbit g8
      have sub : uN B ≤ 2 * r + bit → wY_divide_57 post (wY_divide_10 post A B x5 f0 f1 f2 f3 f4 f5 (k + 1)) A B x5 x6 y8 (nI k) f0 f1 f2 f3 f4 f5 := by
        intro hge
        refine hy_div57 (by omega) hq (fun y6 f1 => ?_)
        have s1 := hd_s1 hAq (by rw [hbt]; exact hge)
        rw [hbt] at s1
        refine ih y6 (y8 - B) (2 * q + 1) (2 * r + bit - uN B) s1 (by omega) ?_ (by rw [f1, hd_q1])
        rw [hw_Nsub, g8]
        omega
      refine br_c (fun z => ?_) (fun z => ?_)
      · have hr2 : r < 9223372036854775808 := by
          rcases hz with ⟨_, y⟩ | ⟨y, _⟩
          · exact y
          · exact absurd z y
        rw [Nat.mod_eq_of_lt (by omega)] at g8
        refine hy_below (fun y => br_f (by decide) (nm_e ?_)) (fun y => br_t rfl (sub (by omega)))
        rw [g8] at y
        have s0 := hd_s0 hAq
        rw [hbt] at s0
        exact ih x6 y8 (2 * q) (2 * r + bit) s0 y g8 (by rw [hq, hd_q0])
      · have hr2 : 9223372036854775808 ≤ r := by
          rcases hz with ⟨y, _⟩ | ⟨_, y⟩
          · exact absurd y z
          · exact y
        exact sub (by omega)
    refine br_f (nI_pos (by omega)) (br_c (fun z => ?_) (fun z => ?_))
    · exact body 0 (Or.inl ⟨rfl, hp.mp z⟩)
    · exact body 1 (Or.inr ⟨by decide, Nat.le_of_not_lt (fun w => z (hp.mpr w))⟩)
theorem hy_divide {post : Int64 → Prop} {A B : Int64} {x5 : Int32} (hB : ¬ B = 0) (h0 : x5 = 0 → post (lN (uN A / uN B))) (h1 : ¬ x5 = 0 → post (lN (uN A % uN B))) : wpY_divide post (f0, f1, f2, f3, f4, f5) A B x5 := by
  have hB0 : 0 < uN B := Nat.pos_of_ne_zero (fun w => hB (uN_inj w))
  refine ⟨64 + 1, hy_div10 h0 h1 64 (by decide) 0 0 0 0 ?_ hB0 rfl ?_⟩
  · rw [Nat.mul_zero]
    exact Nat.div_eq_of_lt (uN_lt _)
  · rw [Nat.zero_mul]
    rfl
end
end
section
/-! division with sign -/
theorem hw_magI (x : Int64) : uN (hw_mag x) = x.toInt.natAbs := hw_magN x
theorem hw_ofI (x : Int64) : x = Int64.ofInt x.toInt := (Int64.ofInt_toInt x).symm
theorem hw_Ipos (x : Int64) : 0 ≤ x ↔ 0 ≤ x.toInt := by
  rw [Int64.le_iff_toInt_le, show (0 : Int64).toInt = 0 from by decide]
theorem hw_lNI (n : Nat) : lN n = Int64.ofInt (n : Int) := Int64.ofInt_eq_ofNat.symm
theorem hw_divI (x y : Int64) : x / y = Int64.ofInt (x.toInt.tdiv y.toInt) := by
  apply Int64.toInt_inj.mp
  rw [Int64.toInt_div, Int64.toInt_ofInt]
theorem hw_abs (t : Int) : (0 ≤ t → t = (t.natAbs : Int)) ∧ (¬ 0 ≤ t → t = -(t.natAbs : Int)) := by omega
theorem hw_sdiv (x y : Int64) : x / y = if (0 ≤ x ↔ 0 ≤ y) then lN (x.toInt.natAbs / y.toInt.natAbs) else -lN (x.toInt.natAbs / y.toInt.natAbs) := by
  rw [hw_divI, hw_lNI, ← Int64.ofInt_neg, Int.ofNat_tdiv]
  obtain ⟨a1, a2⟩ := hw_abs x.toInt
  obtain ⟨b1, b2⟩ := hw_abs y.toInt
  rw [← hw_Ipos x] at a1 a2
  rw [← hw_Ipos y] at b1 b2
  by_cases c : 0 ≤ x
  · by_cases d : 0 ≤ y
    · rw [if_pos ⟨fun _ => d, fun _ => c⟩, ← a1 c, ← b1 d]
    · rw [if_neg (fun w => d (w.mp c)), ← a1 c, ← Int.tdiv_neg, ← b2 d]
  · by_cases d : 0 ≤ y
    · rw [if_neg (fun w => c (w.mpr d)), ← b1 d, ← Int.neg_tdiv, ← a2 c]
    · rw [if_pos ⟨fun w => absurd w c, fun w => absurd w d⟩, ← Int.neg_tdiv_neg (x.toInt.natAbs : Int) (y.toInt.natAbs : Int), ← a2 c, ← b2 d]
theorem hw_srem (x y : Int64) : x - x / y * y = if 0 ≤ x then lN (x.toInt.natAbs % y.toInt.natAbs) else -lN (x.toInt.natAbs % y.toInt.natAbs) := by
  have e : x - x / y * y = Int64.ofInt (x.toInt.tmod y.toInt) := by
    rw [Int.tmod_def, Int64.ofInt_sub, Int.mul_comm, Int64.ofInt_mul, ← hw_divI, Int64.ofInt_toInt, Int64.ofInt_toInt]
  rw [e, hw_lNI, ← Int64.ofInt_neg, Int.ofNat_tmod]
  obtain ⟨a1, a2⟩ := hw_abs x.toInt
  obtain ⟨b1, b2⟩ := hw_abs y.toInt
  rw [← hw_Ipos x] at a1 a2
  have ey : ∀ t : Int, t.tmod (y.toInt.natAbs : Int) = t.tmod y.toInt := by
    intro t
    by_cases d : 0 ≤ y.toInt
    · rw [← b1 d]
    · rw [← Int.tmod_neg, ← b2 d]
  rw [ey]
  by_cases c : 0 ≤ x
  · rw [if_pos c, ← a1 c]
  · rw [if_neg c, ← Int.neg_tmod, ← a2 c]
section
variable {H L P Q : Nat → Int32} {V : Nat → Int64}
theorem hx_udiv {post : SX → Prop} (hV : hw_V H L = V) {a b : Nat} (ha : a < 6) (hb : b < 6) (hB : ¬ V b = 0) (h : ∀ H' L', hw_V H' L' 6 = lN (uN (V a) / uN (V b)) → (∀ i, i < 6 → hw_V H' L' i = V i) → post (H', L', P, Q)) : wpX_divide post (H, L, P, Q) 14 (nI a) (nI b) := by
  unfold wpX_divide
  dsimp only
  refine br_t rfl ?_
  unfold wX_divide_12
  refine hx_divU hV (by omega) (by omega) (by omega) (by omega) (by omega) (by omega) hB (fun H' L' e => br_f (by decide) (h H' L' ?_ (fun i hi => ?_)))
  · rw [e, pk_uLs]
  · rw [e, pk_uLn (by omega), pk_uLn (by omega)]
theorem hx_urem {post : SX → Prop} (hV : hw_V H L = V) {a b : Nat} (ha : a < 6) (hb : b < 6) (hB : ¬ V b = 0) (h : ∀ H' L', hw_V H' L' 6 = lN (uN (V a) % uN (V b)) → (∀ i, i < 6 → hw_V H' L' i = V i) → post (H', L', P, Q)) : wpX_divide post (H, L, P, Q) 15 (nI a) (nI b) := by
  unfold wpX_divide
  dsimp only
  refine br_f (by decide) (br_t rfl ?_)
  unfold wX_divide_12
  refine hx_divU hV (by omega) (by omega) (by omega) (by omega) (by omega) (by omega) hB (fun H1 L1 e1 => br_t rfl ?_)
  refine hx_copy (t := 6) (f := 7) e1 (by decide) (by decide) (fun H' L' e => h H' L' ?_ (fun i hi => ?_))
  · rw [e, pk_uLs, pk_uLn (by decide), pk_uLs]
  · rw [e, pk_uLn (by omega), pk_uLn (by omega), pk_uLn (by omega)]
theorem hx_d134 {post : SX → Prop} (hV : hw_V H L = V) (z0 : Int32) (h : ∀ H' L', hw_V H' L' 6 = (if z0 = 0 then V 6 else -V 6) → (∀ i, i < 6 → hw_V H' L' i = V i) → post (H', L', P, Q)) : wX_divide_134 post z0 H L P Q := by
  unfold wX_divide_134
  refine br_c (fun z => h H L ?_ (fun i hi => ?_)) (fun z => ?_)
  · rw [if_pos z, hV]
  · rw [hV]
  · refine hx_copy (t := 8) (f := 6) hV (by decide) (by decide) (fun H1 L1 e1 => ?_)
    refine hx_negate (a := 8) e1 (by decide) (fun H2 L2 e2 => h H2 L2 ?_ (fun i hi => ?_))
    · rw [e2, pk_uLs, pk_uLs, if_neg z]
    · rw [e2, pk_uLn (by omega), pk_uLn (by omega)]
theorem hw_magne {x : Int64} (h : ¬ x = 0) : ¬ hw_mag x = 0 := by
  intro w
  apply h
  have e := congrArg uN w
  rw [hw_magN, hw_N0] at e
  apply Int64.toInt_inj.mp
  rw [show (0 : Int64).toInt = 0 from by decide]
  omega
theorem hx_d63 {post : SX → Prop} (hV : hw_V H L = V) {a b : Nat} {x1 x4 z0 : Int32} (ha : a < 6) (hb : b < 6) (hB : ¬ V b = 0) (h3 : ¬ x1 = 4 → ∀ H' L', hw_V H' L' 6 = (if x4 = z0 then lN ((V a).toInt.natAbs / (V b).toInt.natAbs) else -lN ((V a).toInt.natAbs / (V b).toInt.natAbs)) → (∀ i, i < 6 → hw_V H' L' i = V i) → post (H', L', P, Q)) (h4 : x1 = 4 → ∀ H' L', hw_V H' L' 6 = (if x4 = 0 then lN ((V a).toInt.natAbs % (V b).toInt.natAbs) else -lN ((V a).toInt.natAbs % (V b).toInt.natAbs)) → (∀ i, i < 6 → hw_V H' L' i = V i) → post (H', L', P, Q)) : wX_divide_63 post x1 (nI a) (nI b) x4 z0 H L P Q := by
  unfold wX_divide_63
  refine hx_magnitude hV (by omega) (fun H1 L1 e1 => ?_)
  refine hx_copy (t := 8) (f := 6) e1 (by decide) (by decide) (fun H2 L2 e2 => ?_)
  refine hx_magnitude e2 (by omega) (fun H3 L3 e3 => ?_)
  refine hx_copy (t := 9) (f := 6) e3 (by decide) (by decide) (fun H4 L4 e4 => ?_)
  have f8 : hw_V H4 L4 8 = hw_mag (V a) := by
    rw [e4, pk_uLn (by decide), pk_uLn (by decide), pk_uLs, pk_uLs]
  have f9 : hw_V H4 L4 9 = hw_mag (V b) := by
    rw [e4, pk_uLs, pk_uLs, pk_uLn (by omega), pk_uLn (by omega)]
  have fk : ∀ i, i < 6 → hw_V H4 L4 i = V i := fun i hi => by
    rw [e4, pk_uLn (by omega), pk_uLn (by omega), pk_uLn (by omega), pk_uLn (by omega)]
  refine hx_divU (a := 8) (b := 9) rfl (by decide) (by decide) (by decide) (by decide) (by decide) (by decide) (by rw [f9]; exact hw_magne hB) (fun H5 L5 e5 => ?_)
  rw [f8, f9, hw_magN, hw_magN] at e5
  refine br_c (fun z => ?_) (fun z => ?_)
  · refine hx_copy (t := 6) (f := 7) e5 (by decide) (by decide) (fun H6 L6 e6 => br_t z ?_)
    refine hx_d134 e6 x4 (fun H' L' g6 gk => h4 z H' L' ?_ (fun i hi => ?_))
    · rw [g6, pk_uLs, pk_uLn (by decide), pk_uLs]
    · rw [gk i hi, pk_uLn (by omega), pk_uLn (by omega), pk_uLn (by omega), fk i hi]
  · refine br_f z (br_c (fun y => ?_) (fun y => ?_))
    · refine hx_d134 e5 0 (fun H' L' g6 gk => h3 z H' L' ?_ (fun i hi => ?_))
      · rw [g6, pk_uLs, if_pos rfl, if_pos y]
      · rw [gk i hi, pk_uLn (by omega), pk_uLn (by omega), fk i hi]
    · refine hx_d134 e5 1 (fun H' L' g6 gk => h3 z H' L' ?_ (fun i hi => ?_))
      · rw [g6, pk_uLs, if_neg (by decide), if_neg y]
      · rw [gk i hi, pk_uLn (by omega), pk_uLn (by omega), fk i hi]
def hw_ng (x : Int64) : Int32 := if 0 ≤ x then 0 else 1
theorem hx_d47 {post : SX → Prop} (hV : hw_V H L = V) {a b : Nat} {x1 : Int32} (ha : a < 6) (hb : b < 6) (h14 : ¬ x1 = 14) (h15 : ¬ x1 = 15) (h : wX_divide_63 post x1 (nI a) (nI b) (hw_ng (V a)) (hw_ng (V b)) H L P Q) : wpX_divide post (H, L, P, Q) x1 (nI a) (nI b) := by
  unfold wpX_divide
  dsimp only
  rw [hw_c12 (show a < 12 by omega)]
  have hpa := hw_jpos (H a) (L a)
  have hqa : hw_j (H a) (L a) = V a := congrFun hV a
  have hpb := hw_jpos (H b) (L b)
  have hqb : hw_j (H b) (L b) = V b := congrFun hV b
  rw [hqa] at hpa
  rw [hqb] at hpb
  refine br_f h14 (br_f h15 ⟨hw_i12 (by omega), br_c (fun z => ?_) (fun z => ?_)⟩)
  all_goals
    unfold wX_divide_47
    rw [hw_c12 (show b < 12 by omega)]
    refine ⟨hw_i12 (by omega), br_c (fun y => ?_) (fun y => ?_)⟩
    all_goals
      unfold hw_ng at h
      simp only [← hpa, ← hpb, z, y, if_true, if_false] at h
      exact h
theorem hx_sdiv {post : SX → Prop} (hV : hw_V H L = V) {a b : Nat} (ha : a < 6) (hb : b < 6) (hB : ¬ V b = 0) (h : ∀ H' L', hw_V H' L' 6 = V a / V b → (∀ i, i < 6 → hw_V H' L' i = V i) → post (H', L', P, Q)) : wpX_divide post (H, L, P, Q) 3 (nI a) (nI b) := by
  refine hx_d47 hV ha hb (by decide) (by decide) (hx_d63 hV ha hb hB (fun _ H' L' g6 gk => h H' L' ?_ gk) (fun w => absurd w (by decide)))
  rw [g6, hw_sdiv]
  have e : hw_ng (V a) = hw_ng (V b) ↔ (0 ≤ V a ↔ 0 ≤ V b) := by
    unfold hw_ng
    by_cases c : 0 ≤ V a <;> by_cases d : 0 ≤ V b <;> simp [c, d]
  by_cases c : (0 ≤ V a ↔ 0 ≤ V b)
  · rw [if_pos c, if_pos (e.mpr c)]
  · rw [if_neg c, if_neg (fun w => c (e.mp w))]
theorem hx_srem {post : SX → Prop} (hV : hw_V H L = V) {a b : Nat} (ha : a < 6) (hb : b < 6) (hB : ¬ V b = 0) (h : ∀ H' L', hw_V H' L' 6 = V a - V a / V b * V b → (∀ i, i < 6 → hw_V H' L' i = V i) → post (H', L', P, Q)) : wpX_divide post (H, L, P, Q) 4 (nI a) (nI b) := by
  refine hx_d47 hV ha hb (by decide) (by decide) (hx_d63 hV ha hb hB (fun w => absurd rfl w) (fun _ H' L' g6 gk => h H' L' ?_ gk))
  rw [g6, hw_srem]
  unfold hw_ng
  by_cases c : 0 ≤ V a
  · rw [if_pos c, if_pos c, if_pos rfl]
  · rw [if_neg c, if_neg c, if_neg (by decide)]
end
/-! the reference's upper half, bit by bit -/
theorem hu_dbl {uh ul : Nat} {T : Int} (h1 : uh < 18446744073709551616) (h2 : ul < 18446744073709551616) (h : ((uh : Int) * 18446744073709551616 + ul - T) % 340282366920938463463374607431768211456 = 0) : (((2 * uh % 18446744073709551616 + ul / 9223372036854775808 : Nat) : Int) * 18446744073709551616 + ((2 * ul % 18446744073709551616 : Nat) : Int) - 2 * T) % 340282366920938463463374607431768211456 = 0 := by
  omega
theorem hu_add {uh ul uA us c : Nat} {T sa : Int} (h1 : uh < 18446744073709551616) (h2 : ul < 18446744073709551616) (h3 : uA < 18446744073709551616) (hs : (us = 0 ∧ sa = uA) ∨ (us = 18446744073709551615 ∧ sa = (uA : Int) - 18446744073709551616)) (hc : (c = 1 ∧ (ul + uA) % 18446744073709551616 < ul) ∨ (c = 0 ∧ ul ≤ (ul + uA) % 18446744073709551616)) (h : ((uh : Int) * 18446744073709551616 + ul - T) % 340282366920938463463374607431768211456 = 0) : (((uh + (us + c) % 18446744073709551616) % 18446744073709551616 : Nat) * (18446744073709551616 : Int) + (((ul + uA) % 18446744073709551616 : Nat) : Int) - (T + sa)) % 340282366920938463463374607431768211456 = 0 := by
  rcases hs with ⟨rfl, rfl⟩ | ⟨rfl, rfl⟩ <;> rcases hc with ⟨rfl, hc⟩ | ⟨rfl, hc⟩ <;> omega
theorem hu_sub {uh ul uA us c : Nat} {T sa : Int} (h1 : uh < 18446744073709551616) (h2 : ul < 18446744073709551616) (h3 : uA < 18446744073709551616) (hs : (us = 0 ∧ sa = uA) ∨ (us = 18446744073709551615 ∧ sa = (uA : Int) - 18446744073709551616)) (hc : (c = 1 ∧ ul < uA) ∨ (c = 0 ∧ uA ≤ ul)) (h : ((uh : Int) * 18446744073709551616 + ul - T) % 340282366920938463463374607431768211456 = 0) : (((18446744073709551616 - (us + c) % 18446744073709551616 + uh) % 18446744073709551616 : Nat) * (18446744073709551616 : Int) + (((18446744073709551616 - uA + ul) % 18446744073709551616 : Nat) : Int) - (T - sa)) % 340282366920938463463374607431768211456 = 0 := by
  rcases hs with ⟨rfl, rfl⟩ | ⟨rfl, rfl⟩ <;> rcases hc with ⟨rfl, hc⟩ | ⟨rfl, hc⟩ <;> omega
theorem hu_t {U k : Nat} {sb t : Int} (h : sb = t * 2 ^ (k + 1) + ((U % 2 ^ (k + 1) : Nat) : Int)) : sb = (2 * t + ((U / 2 ^ k % 2 : Nat) : Int)) * 2 ^ k + ((U % 2 ^ k : Nat) : Int) := by
  rw [Nat.mod_pow_succ, Int.natCast_add, Int.natCast_mul, Int.natCast_pow, Int.pow_succ] at h
  rw [h]
  generalize ((U % 2 ^ k : Nat) : Int) = m
  generalize ((U / 2 ^ k % 2 : Nat) : Int) = b
  generalize ((2 : Nat) : Int) ^ k = p
  grind
end
section
/-! the reference's methods -/
theorem hw_b1 (x : Int64) {k : Nat} (hk : k < 64) : (((x.toUInt64 >>> ((nI k).toInt64.toUInt64 &&& Int64.toUInt64 63)).toInt64) &&& 1) = 1 ↔ uN x / 2 ^ k % 2 = 1 := by
  rw [hw_Neq, hw_Nbit x hk, hw_N1]
def hw_sg (x : Int64) : Int64 := if 0 ≤ x then 0 else -1
theorem hw_sgN (x : Int64) : (uN (hw_sg x) = 0 ∧ x.toInt = uN x) ∨ (uN (hw_sg x) = 18446744073709551615 ∧ x.toInt = (uN x : Int) - 18446744073709551616) := by
  have hx := uN_lt x
  have hp := hw_Npos x
  unfold hw_sg
  rw [uN_int]
  by_cases c : 0 ≤ x
  · have d := hp.mp c
    rw [if_pos c, if_pos (by omega)]
    exact Or.inl ⟨rfl, rfl⟩
  · have d : ¬ uN x < 9223372036854775808 := fun w => c (hp.mpr w)
    rw [if_neg c, if_neg (by omega)]
    exact Or.inr ⟨hw_Nm1, rfl⟩
/-- the state of the two upper loops: the number so far is a * t modulo 2^128 -/
def hu_I (a : Int) (hi lo : Int64) (t : Int) : Prop := ((uN hi : Int) * 18446744073709551616 + uN lo - a * t) % 340282366920938463463374607431768211456 = 0
theorem hu_end {A B hi lo : Int64} {t : Int} (h : hu_I A.toInt hi lo t) (ht : B.toInt = t * 2 ^ 0 + ((uN B % 2 ^ 0 : Nat) : Int)) : hi = hw_mulh A B := by
  have e : B.toInt = t := by
    rw [ht, Nat.pow_zero, Nat.mod_one, Int.pow_zero]
    omega
  have m := hw_mulhN A B
  unfold hu_I at h
  rw [← e] at h
  have h1 := uN_lt hi
  have h2 := uN_lt lo
  generalize A.toInt * B.toInt = p at h m
  apply uN_inj
  omega
theorem hu_I2 {a : Int} {hi lo hi1 lo1 : Int64} {t : Int} (h : hu_I a hi lo t) (e1 : uN hi1 = 2 * uN hi % 18446744073709551616 + uN lo / 9223372036854775808) (e2 : uN lo1 = 2 * uN lo % 18446744073709551616) : hu_I a hi1 lo1 (2 * t) := by
  have z := hu_dbl (uN_lt hi) (uN_lt lo) h
  unfold hu_I
  rw [e1, e2, Int.mul_left_comm]
  exact z
theorem hu_Ia {A hi lo s c : Int64} {t : Int} (h : hu_I A.toInt hi lo t) (hs : s = hw_sg A) (hc : (uN c = 1 ∧ uN (lo + A) < uN lo) ∨ (uN c = 0 ∧ uN lo ≤ uN (lo + A))) : hu_I A.toInt (hi + (s + c)) (lo + A) (t + 1) := by
  have hs2 := hw_sgN A
  rw [← hs] at hs2
  rw [uN_add lo A] at hc
  have z := hu_add (uN_lt hi) (uN_lt lo) (uN_lt A) hs2 hc h
  unfold hu_I
  rw [uN_add, uN_add, uN_add, Int.mul_add, Int.mul_one]
  exact z
theorem hu_Is {A hi lo s c : Int64} {t : Int} (h : hu_I A.toInt hi lo t) (hs : s = hw_sg A) (hc : (uN c = 1 ∧ uN lo < uN A) ∨ (uN c = 0 ∧ uN A ≤ uN lo)) : hu_I A.toInt (hi - (s + c)) (lo - A) (t - 1) := by
  have hs2 := hw_sgN A
  rw [← hs] at hs2
  have z := hu_sub (uN_lt hi) (uN_lt lo) (uN_lt A) hs2 hc h
  unfold hu_I
  rw [hw_Nsub, hw_Nsub, uN_add, Int.mul_sub, Int.mul_one]
  exact z
section
variable {f0 f1 f2 f3 f4 f5 : Int64}
theorem hy_up81a {post : Int64 → Prop} {J : Int64 → Int64 → Int32 → Prop} {A B hi lo s c : Int64} {k : Nat} (hk : k < 63) (h : J (hi + (s + c)) (lo + A) (hw_c k)) : wY_upper_81 post J A B hi lo (nI k) (lo + A) s c f0 f1 f2 f3 f4 f5 :=
  br_f (nI_ge (b := 63) hk (by decide)) (nm_e (nm_e h))
theorem hy_up81s {post : Int64 → Prop} {J : Int64 → Int64 → Int32 → Prop} {A B hi lo s c sum : Int64} (h : ∀ d : Int64, (uN d = 1 ∧ uN lo < uN A) ∨ (uN d = 0 ∧ uN A ≤ uN lo) → J (hi - (s + d)) (lo - A) (hw_c 63)) : wY_upper_81 post J A B hi lo (nI 63) sum s c f0 f1 f2 f3 f4 f5 := by
  refine br_t (nI_le (a := 63) (by omega) (by decide)) (nm_e ?_)
  refine hy_below (fun z => br_f (by decide) (nm_e (nm_e (h 1 (Or.inl ⟨rfl, z⟩))))) (fun z => br_t rfl (nm_e (nm_e (h 0 (Or.inr ⟨rfl, z⟩)))))
theorem hy_up63 {post : Int64 → Prop} {J : Int64 → Int64 → Int32 → Prop} {A B hi lo s : Int64} {k : Nat} (h : ∀ c : Int64, (uN c = 1 ∧ uN (lo + A) < uN lo) ∨ (uN c = 0 ∧ uN lo ≤ uN (lo + A)) → wY_upper_81 post J A B hi lo (nI k) (lo + A) s c f0 f1 f2 f3 f4 f5) : wY_upper_63 post J A B hi lo (nI k) (lo + A) s f0 f1 f2 f3 f4 f5 := by
  unfold wY_upper_63
  exact hy_below (fun z => br_f (by decide) (h 1 (Or.inl ⟨rfl, z⟩))) (fun z => br_t rfl (h 0 (Or.inr ⟨rfl, z⟩)))
theorem hy_up10 {post : Int64 → Prop} {A B : Int64} (h : post (hw_mulh A B)) : ∀ k, k ≤ 63 → ∀ (hi lo : Int64) (t : Int), hu_I A.toInt hi lo t → B.toInt = t * 2 ^ k + ((uN B % 2 ^ k : Nat) : Int) → wY_upper_10 post A B f0 f1 f2 f3 f4 f5 (k + 1) hi lo (hw_c k) := by
  intro k
  induction k with
  | zero =>
    intro _ hi lo t hI ht
    rw [hw_c0, hu_end hI ht]
    exact br_t (by decide) h
  | succ k ih =>
    intro hk hi lo t hI ht
    have ih := ih (by omega)
    have ht2 := hu_t ht
    rw [hw_cs]
    refine br_f (nI_pos (by omega)) (fun hi1 e1 lo1 e2 => ?_)
    have l1 : uN ((lo.toUInt64 >>> ((63 : Int32).toInt64.toUInt64 &&& Int64.toUInt64 63)).toInt64) = uN lo / 9223372036854775808 := uN_s63 lo
    have hlo := uN_lt lo
    have g1 : uN hi1 = 2 * uN hi % 18446744073709551616 + uN lo / 9223372036854775808 := by
      rw [e1, uN_or (by rw [l1]; omega), l1]
    have g2 : uN lo1 = 2 * uN lo % 18446744073709551616 := by rw [e2, uN_shl]
    have hI1 := hu_I2 hI g1 g2
    have body : uN B / 2 ^ k % 2 = 1 → ∀ s, s = hw_sg A → wY_upper_63 post (wY_upper_10 post A B f0 f1 f2 f3 f4 f5 (k + 1)) A B hi1 lo1 (nI k) (lo1 + A) s f0 f1 f2 f3 f4 f5 := by
      intro hb s hs
      refine hy_up63 (fun c hc => hy_up81a (by omega) ?_)
      refine ih _ _ (2 * t + 1) (hu_Ia hI1 hs hc) ?_
      rw [hb] at ht2
      exact ht2
    have hbb := hw_b1 B (k := k) (by omega)
    refine br_c (fun z => ?_) (fun z => nm_e ?_)
    · have hb := hbb.mp z
      refine fun x10 e10 => ?_
      subst e10
      refine br_c (fun y => body hb 0 ?_) (fun y => body hb (-1) ?_)
      · unfold hw_sg
        rw [if_pos y]
      · unfold hw_sg
        rw [if_neg y]
    · have hb : uN B / 2 ^ k % 2 = 0 := by
        have h1 : ¬ uN B / 2 ^ k % 2 = 1 := fun w => z (hbb.mpr w)
        have h2 := Nat.mod_lt (uN B / 2 ^ k) (show 0 < 2 by decide)
        omega
      refine ih _ _ (2 * t) hI1 ?_
      rw [hb] at ht2
      exact ht2.trans (by rw [Int.natCast_zero, Int.add_zero])
theorem hy_upper {post : Int64 → Prop} {A B : Int64} (h : post (hw_mulh A B)) : wpY_upper post (f0, f1, f2, f3, f4, f5) A B := by
  refine ⟨64 + 1, ?_⟩
  have hI : hu_I A.toInt 0 0 0 := by
    unfold hu_I
    rw [hw_N0, Int.mul_zero]
    decide
  have hB := uN_lt B
  have hBi := uN_int B
  have loop := hy_up10 (f0 := f0) (f1 := f1) (f2 := f2) (f3 := f3) (f4 := f4) (f5 := f5) (B := B) h 63 (by decide)
  refine br_f (by decide) (fun hi1 e1 lo1 e2 => ?_)
  have z1 : hi1 = 0 := by rw [e1]; decide
  have z2 : lo1 = 0 := by rw [e2]; decide
  have hbb := hw_b1 B (k := 63) (by omega)
  rw [z1, z2]
  refine br_c (fun z => ?_) (fun z => nm_e ?_)
  · have hb := hbb.mp z
    have body : ∀ s, s = hw_sg A → wY_upper_63 post (wY_upper_10 post A B f0 f1 f2 f3 f4 f5 64) A B 0 0 (nI 63) (0 + A) s f0 f1 f2 f3 f4 f5 := by
      intro s hs
      refine hy_up63 (fun c hc => hy_up81s (fun d hd => ?_))
      refine loop _ _ (0 - 1) (hu_Is hI hs hd) ?_
      omega
    refine fun x10 e10 => ?_
    subst e10
    refine br_c (fun y => body 0 ?_) (fun y => body (-1) ?_)
    · unfold hw_sg
      rw [if_pos y]
    · unfold hw_sg
      rw [if_neg y]
  · have hb : ¬ uN B / 2 ^ 63 % 2 = 1 := fun w => z (hbb.mpr w)
    refine loop _ _ 0 hI ?_
    omega
end
end
section
/-! the six registers -/
def hw_y (V : Nat → Int64) : SY := (V 0, V 1, V 2, V 3, V 4, V 5)
theorem hw_yk {V W : Nat → Int64} (h : ∀ i, i < 6 → V i = W i) : hw_y V = hw_y W := by
  unfold hw_y
  rw [h 0 (by decide), h 1 (by decide), h 2 (by decide), h 3 (by decide), h 4 (by decide), h 5 (by decide)]
theorem hw_reg (x : Int32) : (x < 0 ∨ 5 < x) ∨ ∃ r, r < 6 ∧ x = nI r := by
  rcases pk_ix x (n := 6) (by decide) with h | h | h
  · exact Or.inl (Or.inl h)
  · refine Or.inl (Or.inr ?_)
    have h5 : (5 : Int32).toInt = 5 := by decide
    rw [Int32.le_iff_toInt_le, nI_toInt (by decide)] at h
    rw [Int32.lt_iff_toInt_lt, h5]
    omega
  · exact Or.inr h
theorem hw_r6 {r : Nat} (hr : r < 6) : r = 0 ∨ r = 1 ∨ r = 2 ∨ r = 3 ∨ r = 4 ∨ r = 5 := by omega
section
variable {H L P Q : Nat → Int32} {V : Nat → Int64} {f0 f1 f2 f3 f4 f5 : Int64}
theorem hx_regB {pp : Int32 → Prop} {x : Int32} (hb : x < 0 ∨ 5 < x) (h : pp 0) : wpX_isRegister pp (H, L, P, Q) x :=
  br_c (fun _ => h) (fun z => br_t (hb.resolve_left z) h)
theorem hx_regT {pp : Int32 → Prop} {r : Nat} (hr : r < 6) (h : pp 1) : wpX_isRegister pp (H, L, P, Q) (nI r) :=
  br_f (nI_pos (by omega)) (br_f (nI_nlt (a := 5) (by omega) (by decide)) h)
theorem hy_regB {pp : Int32 → Prop} {x : Int32} (hb : x < 0 ∨ 5 < x) (h : pp 0) : wpY_isRegister pp (f0, f1, f2, f3, f4, f5) x :=
  br_c (fun _ => h) (fun z => br_t (hb.resolve_left z) h)
theorem hy_regT {pp : Int32 → Prop} {r : Nat} (hr : r < 6) (h : pp 1) : wpY_isRegister pp (f0, f1, f2, f3, f4, f5) (nI r) :=
  br_f (nI_pos (by omega)) (br_f (nI_nlt (a := 5) (by omega) (by decide)) h)
theorem hy_get {pp : Int64 → Prop} {r : Nat} (hr : r < 6) (h : pp (V r)) : wpY_get pp (V 0, V 1, V 2, V 3, V 4, V 5) (nI r) := by
  rcases hw_r6 hr with rfl | rfl | rfl | rfl | rfl | rfl
  · exact br_t rfl h
  · exact br_f (by decide) (br_t rfl h)
  · exact br_f (by decide) (br_f (by decide) (br_t rfl h))
  · exact br_f (by decide) (br_f (by decide) (br_f (by decide) (br_t rfl h)))
  · exact br_f (by decide) (br_f (by decide) (br_f (by decide) (br_f (by decide) (br_t rfl h))))
  · exact br_f (by decide) (br_f (by decide) (br_f (by decide) (br_f (by decide) (br_f (by decide) (br_t rfl h)))))
theorem hy_getB {pp : Int64 → Prop} {x : Int32} (hb : x < 0 ∨ 5 < x) (h : pp 0) : wpY_get pp (f0, f1, f2, f3, f4, f5) x := by
  have n : ∀ r, r < 6 → ¬ x = nI r := by
    intro r hr e
    rw [e] at hb
    rcases hb with w | w
    · exact nI_pos (by omega) w
    · exact nI_nlt (a := 5) (b := r) (by omega) (by decide) w
  exact br_f (n 0 (by decide)) (br_f (n 1 (by decide)) (br_f (n 2 (by decide)) (br_f (n 3 (by decide)) (br_f (n 4 (by decide)) (br_f (n 5 (by decide)) h)))))
theorem hy_set {post : Int32 → SY → Prop} {r : Nat} {x : Int64} (hr : r < 6) (h : post 1 (hw_y (vp_updL V r x))) : wpY_set post (V 0, V 1, V 2, V 3, V 4, V 5) (nI r) x := by
  unfold wpY_set
  dsimp only
  refine hy_regT hr (br_f (by decide) ?_)
  unfold wY_set_19 wY_set_29 wY_set_39 wY_set_49 wY_set_59
  rcases hw_r6 hr with rfl | rfl | rfl | rfl | rfl | rfl
  · exact br_t rfl (br_f (by decide) (br_f (by decide) (br_f (by decide) (br_f (by decide) (br_f (by decide) h)))))
  · exact br_f (by decide) (br_t rfl (br_f (by decide) (br_f (by decide) (br_f (by decide) (br_f (by decide) h)))))
  · exact br_f (by decide) (br_f (by decide) (br_t rfl (br_f (by decide) (br_f (by decide) (br_f (by decide) h)))))
  · exact br_f (by decide) (br_f (by decide) (br_f (by decide) (br_t rfl (br_f (by decide) (br_f (by decide) h)))))
  · exact br_f (by decide) (br_f (by decide) (br_f (by decide) (br_f (by decide) (br_t rfl (br_f (by decide) h)))))
  · exact br_f (by decide) (br_f (by decide) (br_f (by decide) (br_f (by decide) (br_f (by decide) (br_t rfl h)))))
/-! apply: the value of an operation -/
def hw_op (o : Nat) (x y : Int64) : Int64 := match o with
  | 0 => x + y
  | 1 => x - y
  | 2 => x * y
  | 3 => x / y
  | 4 => x - x / y * y
  | 5 => x &&& y
  | 6 => x ||| y
  | 7 => x ^^^ y
  | 8 => x <<< ((y &&& 63).toInt32.toInt64 &&& 63)
  | 9 => x >>> ((y &&& 63).toInt32.toInt64 &&& 63)
  | 10 => (x.toUInt64 >>> ((y &&& 63).toInt32.toInt64.toUInt64 &&& Int64.toUInt64 63)).toInt64
  | 11 => (hw_scmp x y).toInt64
  | 12 => (hw_ucmp x y).toInt64
  | 13 => hw_mulh x y
  | 14 => lN (uN x / uN y)
  | _ => lN (uN x % uN y)
def hw_dv (o : Nat) : Prop := o = 3 ∨ o = 4 ∨ o = 14 ∨ o = 15
theorem hx_fin {post : Int32 → SX → Prop} {d : Nat} {x : Int64} (h6 : hw_V H L 6 = x) (hk : ∀ i, i < 6 → hw_V H L i = V i) (hd : d < 6) (h : ∀ H' L' P' Q', (∀ i, i < 6 → hw_V H' L' i = vp_updL V d x i) → post 1 (H', L', P', Q')) : wX_apply_221 post (nI d) H L P Q := by
  unfold wX_apply_221
  refine hx_copy (f := 6) rfl (by omega) (by decide) (fun H' L' e => h H' L' P Q (fun i hi => ?_))
  rw [e, h6]
  by_cases c : i = d
  · rw [c, pk_uLs, pk_uLs]
  · rw [pk_uLn c, pk_uLn c, hk i hi]
theorem hx_fin6 {post : Int32 → SX → Prop} {d : Nat} {x : Int64} (e : hw_V H L = vp_updL V 6 x) (hd : d < 6) (h : ∀ H' L' P' Q', (∀ i, i < 6 → hw_V H' L' i = vp_updL V d x i) → post 1 (H', L', P', Q')) : wX_apply_221 post (nI d) H L P Q :=
  hx_fin (by rw [e, pk_uLs]) (fun i hi => by rw [e, pk_uLn (by omega)]) hd h
theorem hx_83 {post : Int32 → SX → Prop} (hV : hw_V H L = V) {o d a b : Nat} (ho : o < 16) (hn : ¬ hw_dv o) (hd : d < 6) (ha : a < 6) (hb : b < 6) (h : ∀ H' L' P' Q', (∀ i, i < 6 → hw_V H' L' i = vp_updL V d (hw_op o (V a) (V b)) i) → post 1 (H', L', P', Q')) : wX_apply_83 post (nI o) (nI d) (nI a) (nI b) 0 H L P Q := by
  have ha' : a < 12 := by omega
  have hb' : b < 12 := by omega
  have hc : o = 0 ∨ o = 1 ∨ o = 2 ∨ o = 5 ∨ o = 6 ∨ o = 7 ∨ o = 8 ∨ o = 9 ∨ o = 10 ∨ o = 11 ∨ o = 12 ∨ o = 13 := by
    unfold hw_dv at hn
    omega
  obtain ⟨k, hk, k1, k2⟩ := hw_count (H b) (L b)
  have hbV : hw_j (H b) (L b) = V b := congrFun hV b
  rw [hbV] at k2
  unfold wX_apply_83
  rw [hw_c12 hb', k1]
  rcases hc with rfl | rfl | rfl | rfl | rfl | rfl | rfl | rfl | rfl | rfl | rfl | rfl
  · exact br_t rfl (hx_add hV ha' hb' (fun H1 L1 e1 => hx_fin6 e1 hd h))
  · exact br_f (by decide) (br_t rfl (hx_subtract hV ha' hb' (fun H1 L1 e1 => hx_fin6 e1 hd h)))
  · exact br_f (by decide) (br_f (by decide) (br_t rfl (hx_multiply hV ha' hb' (fun H1 L1 P1 Q1 e1 => hx_fin6 e1 hd h))))
  · refine br_f (by decide) (br_f (by decide) (br_f (by decide) (br_t rfl (br_f (by decide) (br_t (by decide) ?_)))))
    unfold wX_apply_190
    exact br_f (by decide) (br_f (by decide) (hx_and hV ha' hb' (fun H1 L1 e1 => hx_fin6 e1 hd h)))
  · refine br_f (by decide) (br_f (by decide) (br_f (by decide) (br_t rfl (br_f (by decide) (br_t (by decide) ?_)))))
    unfold wX_apply_190
    exact br_f (by decide) (br_f (by decide) (hx_or hV ha' hb' (fun H1 L1 e1 => hx_fin6 e1 hd h)))
  · refine br_f (by decide) (br_f (by decide) (br_f (by decide) (br_t rfl (br_f (by decide) (br_t (by decide) ?_)))))
    unfold wX_apply_190
    exact br_f (by decide) (br_f (by decide) (hx_xor hV ha' hb' (fun H1 L1 e1 => hx_fin6 e1 hd h)))
  · refine br_f (by decide) (br_f (by decide) (br_f (by decide) (br_t rfl (br_f (by decide) (br_f (by decide) (br_f (by decide) ⟨hw_i12 hb', ?_⟩))))))
    refine hx_shl hV ha' hk (fun H1 L1 e1 => hx_fin6 e1 hd ?_)
    rw [← k2]
    exact h
  · refine br_f (by decide) (br_f (by decide) (br_f (by decide) (br_t rfl (br_f (by decide) (br_f (by decide) (br_f (by decide) ⟨hw_i12 hb', ?_⟩))))))
    refine hx_shr hV ha' hk (fun H1 L1 e1 => hx_fin6 e1 hd ?_)
    rw [← k2]
    exact h
  · refine br_f (by decide) (br_f (by decide) (br_f (by decide) (br_t rfl (br_f (by decide) (br_f (by decide) (br_f (by decide) ⟨hw_i12 hb', ?_⟩))))))
    refine hx_ushr hV ha' hk (fun H1 L1 e1 => hx_fin6 e1 hd ?_)
    rw [← k2]
    exact h
  · refine br_f (by decide) (br_f (by decide) (br_f (by decide) (br_t rfl (br_f (by decide) (br_f (by decide) (br_t (by decide) ?_))))))
    unfold wX_apply_190 wX_apply_202
    exact br_t rfl (hx_scompare hV ha' hb' (fun H1 L1 e1 => hx_fin6 e1 hd h))
  · refine br_f (by decide) (br_f (by decide) (br_f (by decide) (br_t rfl (br_f (by decide) (br_f (by decide) (br_t (by decide) ?_))))))
    unfold wX_apply_190 wX_apply_202
    exact br_f (by decide) (br_t rfl (hx_ucompare hV ha' hb' (fun H1 L1 e1 => hx_fin6 e1 hd h)))
  · exact br_f (by decide) (br_f (by decide) (br_f (by decide) (br_t rfl (br_t rfl (hx_multiplyHigh hV ha hb (fun H1 L1 P1 Q1 g6 gk => hx_fin g6 gk hd h))))))
theorem hx_83d {post : Int32 → SX → Prop} (hV : hw_V H L = V) {o d a b : Nat} (hn : hw_dv o) (hd : d < 6) (ha : a < 6) (hb : b < 6) (hB : ¬ V b = 0) (h : ∀ H' L' P' Q', (∀ i, i < 6 → hw_V H' L' i = vp_updL V d (hw_op o (V a) (V b)) i) → post 1 (H', L', P', Q')) : wX_apply_83 post (nI o) (nI d) (nI a) (nI b) 1 H L P Q := by
  unfold wX_apply_83
  unfold hw_dv at hn
  rcases hn with rfl | rfl | rfl | rfl
  · exact br_f (by decide) (br_f (by decide) (br_f (by decide) (br_f (by decide) (hx_sdiv hV ha hb hB (fun H1 L1 g6 gk => hx_fin g6 gk hd h)))))
  · exact br_f (by decide) (br_f (by decide) (br_f (by decide) (br_f (by decide) (hx_srem hV ha hb hB (fun H1 L1 g6 gk => hx_fin g6 gk hd h)))))
  · exact br_f (by decide) (br_f (by decide) (br_f (by decide) (br_f (by decide) (hx_udiv hV ha hb hB (fun H1 L1 g6 gk => hx_fin g6 gk hd h)))))
  · exact br_f (by decide) (br_f (by decide) (br_f (by decide) (br_f (by decide) (hx_urem hV ha hb hB (fun H1 L1 g6 gk => hx_fin g6 gk hd h)))))
theorem hx_apply {post : Int32 → SX → Prop} (hV : hw_V H L = V) {o d a b : Nat} (ho : o < 16) (hd : d < 6) (ha : a < 6) (hb : b < 6) (hz : hw_dv o → V b = 0 → post (-2) (H, L, P, Q)) (h : (hw_dv o → ¬ V b = 0) → ∀ H' L' P' Q', (∀ i, i < 6 → hw_V H' L' i = vp_updL V d (hw_op o (V a) (V b)) i) → post 1 (H', L', P', Q')) : wpX_apply post (H, L, P, Q) (nI o) (nI d) (nI a) (nI b) := by
  have dv : hw_dv o → wX_apply_59 post (nI o) (nI d) (nI a) (nI b) H L P Q := by
    intro hn
    unfold wX_apply_59 wX_apply_64
    exact br_f (by decide) (hx_isZero hV (by omega) (fun z => br_f (by decide) (hz hn z)) (fun z => br_t rfl (hx_83d hV hn hd ha hb z (h (fun _ => z)))))
  have nd : ¬ hw_dv o → wX_apply_64 post (nI o) (nI d) (nI a) (nI b) 0 H L P Q := by
    intro hn
    unfold wX_apply_64
    exact br_t rfl (hx_83 hV ho hn hd ha hb (h (fun w => absurd w hn)))
  unfold wpX_apply
  dsimp only
  refine br_f (nI_pos (by omega)) (br_f (nI_nlt (a := 15) (by omega) (by decide)) (hx_regT hd (br_f (by decide) (hx_regT ha (br_f (by decide) (hx_regT hb (br_f (by decide) ?_)))))))
  refine pk_eq o 3 (fun z => dv (Or.inl z)) (fun n3 => pk_eq o 4 (fun z => dv (Or.inr (Or.inl z))) (fun n4 => pk_eq o 14 (fun z => dv (Or.inr (Or.inr (Or.inl z)))) (fun n14 => pk_eq o 15 (fun z => dv (Or.inr (Or.inr (Or.inr z)))) (fun n15 => nd ?_))))
  unfold hw_dv
  omega
/-! apply: the reference -/
theorem hy_cmps {pp : Int32 → Prop} {x y : Int64} (h : pp (hw_scmp x y)) : wpY_compare pp (f0, f1, f2, f3, f4, f5) x y 1 := by
  unfold hw_scmp at h
  unfold wpY_compare wY_compare_33
  dsimp only
  by_cases e : x = y
  · rw [if_pos e] at h
    exact br_t e h
  · rw [if_neg e] at h
    refine br_f e (br_f (by decide) (br_c (fun z => br_t rfl ?_) (fun z => br_f (by decide) ?_)))
    · rw [if_neg (Int64.not_lt.mpr z)] at h
      exact h
    · rw [if_pos (Int64.not_le.mp z)] at h
      exact h
theorem hy_cmpu {pp : Int32 → Prop} {x y : Int64} (h : pp (hw_ucmp x y)) : wpY_compare pp (f0, f1, f2, f3, f4, f5) x y 0 := by
  unfold hw_ucmp at h
  unfold wpY_compare wY_compare_33
  dsimp only
  by_cases e : x = y
  · rw [if_pos e] at h
    exact br_t e h
  · rw [if_neg e] at h
    refine br_f e (br_t rfl (hy_below (fun z => br_f (by decide) ?_) (fun z => br_t rfl ?_)))
    · rw [if_pos z] at h
      exact h
    · rw [if_neg (by omega)] at h
      exact h
theorem hy_result {pp : Int64 → Prop} {o : Nat} {x y : Int64} (ho : o < 16) (hB : hw_dv o → ¬ y = 0) (h : pp (hw_op o x y)) : wpY_result pp (f0, f1, f2, f3, f4, f5) (nI o) x y := by
  have hc : o = 0 ∨ o = 1 ∨ o = 2 ∨ o = 3 ∨ o = 4 ∨ o = 5 ∨ o = 6 ∨ o = 7 ∨ o = 8 ∨ o = 9 ∨ o = 10 ∨ o = 11 ∨ o = 12 ∨ o = 13 ∨ o = 14 ∨ o = 15 := by omega
  unfold wpY_result wY_result_82 wY_result_94 wY_result_109
  dsimp only
  rcases hc with rfl | rfl | rfl | rfl | rfl | rfl | rfl | rfl | rfl | rfl | rfl | rfl | rfl | rfl | rfl | rfl
  · exact br_t rfl h
  · exact br_f (by decide) (br_t rfl h)
  · exact br_f (by decide) (br_f (by decide) (br_t rfl h))
  · have b := hB (Or.inl rfl)
    refine br_f (by decide) (br_f (by decide) (br_f (by decide) (br_f (by decide) (br_f (by decide) (br_f (by decide) (br_t (by decide) (br_f (by decide) (br_f (by decide) (br_f (by decide) ?_)))))))))
    unfold wpY_quotient
    exact br_f b (br_t rfl ⟨b, h⟩)
  · have b := hB (Or.inr (Or.inl rfl))
    refine br_f (by decide) (br_f (by decide) (br_f (by decide) (br_f (by decide) (br_f (by decide) (br_f (by decide) (br_t (by decide) (br_f (by decide) (br_f (by decide) (br_f (by decide) ?_)))))))))
    unfold wpY_quotient
    exact br_f b (br_f (by decide) (br_t rfl ⟨b, h⟩))
  · exact br_f (by decide) (br_f (by decide) (br_f (by decide) (br_t rfl h)))
  · exact br_f (by decide) (br_f (by decide) (br_f (by decide) (br_f (by decide) (br_t rfl h))))
  · exact br_f (by decide) (br_f (by decide) (br_f (by decide) (br_f (by decide) (br_f (by decide) (br_t rfl h)))))
  · refine br_f (by decide) (br_f (by decide) (br_f (by decide) (br_f (by decide) (br_f (by decide) (br_f (by decide) (br_f (by decide) (br_f (by decide) ?_)))))))
    unfold wpY_shifted
    exact nm_e (br_t rfl h)
  · refine br_f (by decide) (br_f (by decide) (br_f (by decide) (br_f (by decide) (br_f (by decide) (br_f (by decide) (br_f (by decide) (br_f (by decide) ?_)))))))
    unfold wpY_shifted
    exact nm_e (br_f (by decide) (br_t rfl h))
  · refine br_f (by decide) (br_f (by decide) (br_f (by decide) (br_f (by decide) (br_f (by decide) (br_f (by decide) (br_f (by decide) (br_f (by decide) ?_)))))))
    unfold wpY_shifted
    exact nm_e (br_f (by decide) (br_f (by decide) h))
  · exact br_f (by decide) (br_f (by decide) (br_f (by decide) (br_f (by decide) (br_f (by decide) (br_f (by decide) (br_f (by decide) (br_t (by decide) (br_t rfl (br_t rfl (hy_cmps h))))))))))
  · exact br_f (by decide) (br_f (by decide) (br_f (by decide) (br_f (by decide) (br_f (by decide) (br_f (by decide) (br_f (by decide) (br_t (by decide) (br_f (by decide) (br_t rfl (br_f (by decide) (hy_cmpu h)))))))))))
  · exact br_f (by decide) (br_f (by decide) (br_f (by decide) (br_f (by decide) (br_f (by decide) (br_f (by decide) (br_f (by decide) (br_t (by decide) (br_f (by decide) (br_f (by decide) (br_t rfl (hy_upper h)))))))))))
  · have b := hB (Or.inr (Or.inr (Or.inl rfl)))
    refine br_f (by decide) (br_f (by decide) (br_f (by decide) (br_f (by decide) (br_f (by decide) (br_f (by decide) (br_f (by decide) (br_t (by decide) (br_f (by decide) (br_f (by decide) (br_f (by decide) ?_))))))))))
    unfold wpY_quotient wY_quotient_44
    exact br_f b (br_f (by decide) (br_f (by decide) (br_f (by decide) (hy_divide b (fun _ => h) (fun w => absurd rfl w)))))
  · have b := hB (Or.inr (Or.inr (Or.inr rfl)))
    refine br_f (by decide) (br_f (by decide) (br_f (by decide) (br_f (by decide) (br_f (by decide) (br_f (by decide) (br_f (by decide) (br_t (by decide) (br_f (by decide) (br_f (by decide) (br_f (by decide) ?_))))))))))
    unfold wpY_quotient wY_quotient_44
    exact br_f b (br_f (by decide) (br_f (by decide) (br_t rfl (hy_divide b (fun w => absurd w (by decide)) (fun _ => h)))))
theorem hy_apply {post : Int32 → SY → Prop} {o d a b : Nat} (ho : o < 16) (hd : d < 6) (ha : a < 6) (hb : b < 6) (hz : hw_dv o → V b = 0 → post (-2) (hw_y V)) (h : (hw_dv o → ¬ V b = 0) → post 1 (hw_y (vp_updL V d (hw_op o (V a) (V b))))) : wpY_apply post (V 0, V 1, V 2, V 3, V 4, V 5) (nI o) (nI d) (nI a) (nI b) := by
  have fin : (hw_dv o → ¬ V b = 0) → wY_apply_96 post (nI o) (nI d) (V a) (V b) (V 0) (V 1) (V 2) (V 3) (V 4) (V 5) := by
    intro w
    unfold wY_apply_96
    exact hy_result ho w (hy_set hd (h w))
  have dv : hw_dv o → wY_apply_74 post (nI o) (nI d) (V a) (V b) (V 0) (V 1) (V 2) (V 3) (V 4) (V 5) := by
    intro hn
    unfold wY_apply_74 wY_apply_79
    exact br_f (by decide) (br_c (fun z => hz hn z) (fun z => fin (fun _ => z)))
  have nd : ¬ hw_dv o → wY_apply_79 post (nI o) (nI d) (V a) (V b) 0 (V 0) (V 1) (V 2) (V 3) (V 4) (V 5) := by
    intro hn
    unfold wY_apply_79
    exact br_t rfl (fin (fun w => absurd w hn))
  unfold wpY_apply
  dsimp only
  refine br_f (nI_pos (by omega)) (br_f (nI_nlt (a := 15) (by omega) (by decide)) (hy_regT hd (br_f (by decide) (hy_regT ha (br_f (by decide) (hy_regT hb (br_f (by decide) (hy_get ha (hy_get hb ?_)))))))))
  refine pk_eq o 3 (fun z => dv (Or.inl z)) (fun n3 => pk_eq o 4 (fun z => dv (Or.inr (Or.inl z))) (fun n4 => pk_eq o 14 (fun z => dv (Or.inr (Or.inr (Or.inl z)))) (fun n14 => pk_eq o 15 (fun z => dv (Or.inr (Or.inr (Or.inr z)))) (fun n15 => nd ?_))))
  unfold hw_dv
  omega
end
end
section
/-! the loops of the calls, each side against one pure function -/
theorem hw_j0n {n : Nat} (h : n < 4294967296) : hw_j 0 (nI n) = lN n := by
  apply uN_inj
  rw [hw_jN, hw_u0, hw_un h, hw_NlN (by omega)]
  omega
section
variable {H L P Q : Nat → Int32} {V : Nat → Int64} {f0 f1 f2 f3 f4 f5 : Int64}
/-! typeDigit -/
theorem hx_typeDigit {post : Int32 → SX → Prop} (hV : hw_V H L = V) {d g : Nat} (hd : d < 6) (hg : g < 10) (h : ∀ H' L' P' Q', (∀ i, i < 6 → hw_V H' L' i = vp_updL V d (V d * 10 + (nI g).toInt64) i) → post 1 (H', L', P', Q')) : wpX_typeDigit post (H, L, P, Q) (nI d) (nI g) := by
  have e10 : hw_j 0 10 = 10 := hw_j0n (n := 10) (by decide)
  have eg : hw_j 0 (nI g) = (nI g).toInt64 := by rw [hw_j0n (by omega), nI_l (by omega)]
  unfold wpX_typeDigit
  dsimp only
  refine hx_regT hd (br_f (by decide) (br_f (nI_pos (by omega)) (br_t (nI_le (b := 9) (by omega) (by decide)) ?_)))
  refine hx_load (t := 10) hV (by decide) (fun H1 L1 e1 => ?_)
  refine hx_multiply (b := 10) e1 (by omega) (by decide) (fun H2 L2 P2 Q2 e2 => ?_)
  refine hx_copy (t := 8) (f := 6) e2 (by decide) (by decide) (fun H3 L3 e3 => ?_)
  refine hx_load (t := 9) e3 (by decide) (fun H4 L4 e4 => ?_)
  refine hx_add (a := 8) (b := 9) e4 (by decide) (by decide) (fun H5 L5 e5 => ?_)
  refine hx_copy (f := 6) e5 (by omega) (by decide) (fun H6 L6 e6 => h H6 L6 P2 Q2 (fun i hi => ?_))
  rw [e6]
  by_cases c : i = d
  · rw [c, pk_uLs, pk_uLs, pk_uLs, pk_uLs, pk_uLn (show (8 : Nat) ≠ 9 by decide), pk_uLs, pk_uLs, pk_uLn (by omega), pk_uLs, e10, eg]
  · rw [pk_uLn c, pk_uLn c, pk_uLn (by omega), pk_uLn (by omega), pk_uLn (by omega), pk_uLn (by omega), pk_uLn (by omega)]
theorem hy_typeDigit {post : Int32 → SY → Prop} {d g : Nat} (hd : d < 6) (hg : g < 10) (h : post 1 (hw_y (vp_updL V d (V d * 10 + (nI g).toInt64)))) : wpY_typeDigit post (V 0, V 1, V 2, V 3, V 4, V 5) (nI d) (nI g) := by
  unfold wpY_typeDigit
  dsimp only
  exact hy_regT hd (br_f (by decide) (br_f (nI_pos (by omega)) (br_t (nI_le (b := 9) (by omega) (by decide)) (hy_get hd (nm_e (hy_set hd h))))))
/-! leadingZeros -/
theorem hw_lead (hV : hw_V H L = V) {r : Nat} (hr : r < 6) : ∀ d j, j + d = 64 → ∃ z : Int32, (∀ pp : Int32 → Prop, pp z → wX_leadingZeros_12 pp (nI r) H L P Q (d + 1) (nI j)) ∧ (∀ pp : Int32 → Prop, pp z → wY_leadingZeros_23 pp (V r) f0 f1 f2 f3 f4 f5 (d + 1) (nI j) (hw_c d)) := by
  intro d
  induction d with
  | zero =>
    intro j hj
    obtain rfl : j = 64 := by omega
    rw [hw_c0]
    exact ⟨nI 64, fun pp h => br_t (nI_le (a := 64) (by omega) (by decide)) h, fun pp h => br_t (by decide) h⟩
  | succ d ih =>
    intro j hj
    have n1 : 63 - nI j = nI d := (pk_sub (a := 63) (b := j) (by omega)).trans (congrArg nI (by omega))
    have n2 : ¬ (64 : Int32) ≤ nI j := nI_ge (b := 64) (by omega) (by decide)
    have hm := Nat.mod_lt (uN (V r) / 2 ^ d) (show 0 < 2 by decide)
    have hb := hw_b1 (V r) (k := d) (by omega)
    rw [hw_cs]
    by_cases c : uN (V r) / 2 ^ d % 2 = 1
    · refine ⟨nI j, fun pp h => br_f n2 ?_, fun pp h => br_f (nI_pos (by omega)) (br_t (hb.mpr c) h)⟩
      rw [n1]
      refine hx_bitOf hV (by omega) (by omega) ?_
      rw [c]
      exact br_f (by decide) h
    · have c0 : uN (V r) / 2 ^ d % 2 = 0 := by omega
      obtain ⟨z, hX, hY⟩ := ih (j + 1) (by omega)
      refine ⟨z, fun pp h => br_f n2 ?_, fun pp h => br_f (nI_pos (by omega)) (br_f (fun w => c (hb.mp w)) (nm_r (nI_1 j) (nm_e (hY pp h))))⟩
      rw [n1]
      refine hx_bitOf hV (by omega) (by omega) ?_
      rw [c0]
      exact br_t rfl (nm_r (nI_1 j) (hX pp h))
/-! power -/
def hw_pw (b t : Int64) : Nat → Int64 → Int64
  | 0, v => v
  | k + 1, v => hw_pw b t k (if uN t / 2 ^ k % 2 = 1 then v * v * b else v * v)
theorem hx_pow {post : Int32 → SX → Prop} {d : Nat} {b t z : Int64} (hd : d < 6) (h : ∀ H' L' P' Q', (∀ i, i < 6 → hw_V H' L' i = vp_updL V d z i) → post 1 (H', L', P', Q')) : ∀ k, k ≤ 64 → ∀ (H L P Q : Nat → Int32) (v : Int64), hw_V H L 6 = v → hw_V H L 10 = b → hw_V H L 11 = t → (∀ i, i < 6 → hw_V H L i = V i) → hw_pw b t k v = z → wX_power_52 post (nI d) (k + 1) (hw_c k) H L P Q := by
  intro k
  induction k with
  | zero =>
    intro _ H L P Q v h6 h10 h11 hk hz
    rw [hw_c0]
    refine br_t (by decide) (hx_copy (f := 6) rfl (by omega) (by decide) (fun H' L' e => h H' L' P Q (fun i hi => ?_)))
    have hz' : v = z := hz
    rw [e, h6, hz']
    by_cases c : i = d
    · rw [c, pk_uLs, pk_uLs]
    · rw [pk_uLn c, pk_uLn c, hk i hi]
  | succ k ih =>
    intro hk64 H L P Q v h6 h10 h11 hk hz
    have ih := ih (by omega)
    have hm := Nat.mod_lt (uN t / 2 ^ k) (show 0 < 2 by decide)
    have hz' : hw_pw b t k (if uN t / 2 ^ k % 2 = 1 then v * v * b else v * v) = z := hz
    rw [hw_cs]
    refine br_f (nI_pos (by omega)) (hx_copy (t := 8) (f := 6) rfl (by decide) (by decide) (fun H1 L1 e1 => ?_))
    refine hx_multiply (a := 8) (b := 8) e1 (by decide) (by decide) (fun H2 L2 P2 Q2 e2 => ?_)
    have g6 : hw_V H2 L2 6 = v * v := by rw [e2, pk_uLs, pk_uLs, h6]
    have g10 : hw_V H2 L2 10 = b := by rw [e2, pk_uLn (by decide), pk_uLn (by decide), h10]
    have g11 : hw_V H2 L2 11 = t := by rw [e2, pk_uLn (by decide), pk_uLn (by decide), h11]
    have gk : ∀ i, i < 6 → hw_V H2 L2 i = V i := fun i hi => by rw [e2, pk_uLn (by omega), pk_uLn (by omega), hk i hi]
    refine hx_bitOf (a := 11) rfl (by decide) (by omega) ?_
    rw [g11]
    by_cases c : uN t / 2 ^ k % 2 = 1
    · rw [if_pos c] at hz'
      rw [c]
      refine br_f (by decide) (hx_copy (t := 8) (f := 6) rfl (by decide) (by decide) (fun H3 L3 e3 => ?_))
      refine hx_multiply (a := 8) (b := 10) e3 (by decide) (by decide) (fun H4 L4 P4 Q4 e4 => nm_e ?_)
      refine ih H4 L4 P4 Q4 (v * v * b) ?_ ?_ ?_ ?_ hz'
      · rw [e4, pk_uLs, pk_uLs, pk_uLn (by decide), g6, g10]
      · rw [e4, pk_uLn (by decide), pk_uLn (by decide), g10]
      · rw [e4, pk_uLn (by decide), pk_uLn (by decide), g11]
      · intro i hi
        rw [e4, pk_uLn (by omega), pk_uLn (by omega), gk i hi]
    · rw [if_neg c] at hz'
      rw [show uN t / 2 ^ k % 2 = 0 by omega]
      exact br_t rfl (nm_e (ih H2 L2 P2 Q2 (v * v) g6 g10 g11 gk hz'))
theorem hy_pow {post : Int32 → SY → Prop} {d : Nat} {b t z : Int64} (hd : d < 6) (h : post 1 (hw_y (vp_updL V d z))) : ∀ k, k ≤ 64 → ∀ (v : Int64), hw_pw b t k v = z → wY_power_47 post (nI d) b t (V 0) (V 1) (V 2) (V 3) (V 4) (V 5) (k + 1) v (hw_c k) := by
  intro k
  induction k with
  | zero =>
    intro _ v hz
    have hz' : v = z := hz
    rw [hw_c0, hz']
    exact br_t (by decide) (hy_set hd h)
  | succ k ih =>
    intro hk64 v hz
    have ih := ih (by omega)
    have hz' : hw_pw b t k (if uN t / 2 ^ k % 2 = 1 then v * v * b else v * v) = z := hz
    have hb := hw_b1 t (k := k) (by omega)
    rw [hw_cs]
    refine br_f (nI_pos (by omega)) (nm_e (br_c (fun w => nm_e (nm_e (ih _ ?_))) (fun w => nm_e (ih _ ?_))))
    · rw [if_pos (hb.mp w)] at hz'
      exact hz'
    · rw [if_neg (fun y => w (hb.mpr y))] at hz'
      exact hz'
theorem hx_power {post : Int32 → SX → Prop} (hV : hw_V H L = V) {d a e : Nat} (hd : d < 6) (ha : a < 6) (he : e < 6) (h : ∀ H' L' P' Q', (∀ i, i < 6 → hw_V H' L' i = vp_updL V d (hw_pw (V a) (V e) 64 1) i) → post 1 (H', L', P', Q')) : wpX_power post (H, L, P, Q) (nI d) (nI a) (nI e) := by
  unfold wpX_power
  dsimp only
  refine hx_regT hd (br_f (by decide) (hx_regT ha (br_f (by decide) (hx_regT he (br_f (by decide) ?_)))))
  refine hx_copy (t := 10) hV (by decide) (by omega) (fun H1 L1 e1 => ?_)
  refine hx_copy (t := 11) e1 (by decide) (by omega) (fun H2 L2 e2 => ?_)
  refine hx_load (t := 6) e2 (by decide) (fun H3 L3 e3 => ⟨64 + 1, ?_⟩)
  refine hx_pow hd h 64 (by decide) H3 L3 P Q 1 ?_ ?_ ?_ ?_ rfl
  · rw [e3, pk_uLs]
    exact hw_j0n (n := 1) (by decide)
  · rw [e3, pk_uLn (by decide), pk_uLn (by decide), pk_uLs]
  · rw [e3, pk_uLn (by decide), pk_uLs, pk_uLn (by omega)]
  · intro i hi
    rw [e3, pk_uLn (by omega), pk_uLn (by omega), pk_uLn (by omega)]
theorem hy_power {post : Int32 → SY → Prop} {d a e : Nat} (hd : d < 6) (ha : a < 6) (he : e < 6) (h : post 1 (hw_y (vp_updL V d (hw_pw (V a) (V e) 64 1)))) : wpY_power post (V 0, V 1, V 2, V 3, V 4, V 5) (nI d) (nI a) (nI e) := by
  unfold wpY_power
  dsimp only
  exact hy_regT hd (br_f (by decide) (hy_regT ha (br_f (by decide) (hy_regT he (br_f (by decide) (hy_get ha (hy_get he ⟨64 + 1, hy_pow hd h 64 (by decide) 1 rfl⟩)))))))
/-! divisor -/
def hw_gc : Nat → Int64 → Int64 → Int64
  | 0, p, _ => p
  | n + 1, p, q => if q = 0 then p else hw_gc n q (lN (uN p % uN q))
theorem hw_gc0 (n : Nat) (p : Int64) : hw_gc n p 0 = p := by
  cases n with
  | zero => rfl
  | succ n =>
    show (if (0 : Int64) = 0 then p else _) = p
    rw [if_pos rfl]
theorem hx_gcd {post : Int32 → SX → Prop} {d : Nat} {z : Int64} (hd : d < 6) (h : ∀ H' L' P' Q', (∀ i, i < 6 → hw_V H' L' i = vp_updL V d z i) → post 1 (H', L', P', Q')) : ∀ n j, j + n = 130 → ∀ (H L P Q : Nat → Int32) (p q : Int64), hw_V H L 10 = p → hw_V H L 11 = q → (∀ i, i < 6 → hw_V H L i = V i) → hw_gc n p q = z → wX_divisor_55 post (nI d) (n + 1) (nI j) H L P Q := by
  have fin : ∀ (H L P Q : Nat → Int32), hw_V H L 10 = z → (∀ i, i < 6 → hw_V H L i = V i) → wX_divisor_102 post (nI d) H L P Q := by
    intro H L P Q h10 hk
    unfold wX_divisor_102
    refine hx_copy (f := 10) rfl (by omega) (by decide) (fun H' L' e => h H' L' P Q (fun i hi => ?_))
    rw [e, h10]
    by_cases c : i = d
    · rw [c, pk_uLs, pk_uLs]
    · rw [pk_uLn c, pk_uLn c, hk i hi]
  intro n
  induction n with
  | zero =>
    intro j hj H L P Q p q h10 h11 hk hz
    obtain rfl : j = 130 := by omega
    have hz' : p = z := hz
    exact br_t (nI_le (a := 130) (by omega) (by decide)) (fin H L P Q (h10.trans hz') hk)
  | succ n ih =>
    intro j hj H L P Q p q h10 h11 hk hz
    have hz' : (if q = 0 then p else hw_gc n q (lN (uN p % uN q))) = z := hz
    refine br_f (nI_ge (b := 130) (by omega) (by decide)) (hx_isZero (a := 11) rfl (by decide) (fun w => br_f (by decide) ?_) (fun w => br_t rfl ?_))
    · rw [h11] at w
      rw [if_pos w] at hz'
      exact fin H L P Q (h10.trans hz') hk
    · have w2 := w
      rw [h11] at w2
      rw [if_neg w2] at hz'
      refine hx_divU (a := 10) (b := 11) rfl (by decide) (by decide) (by decide) (by decide) (by decide) (by decide) w (fun H1 L1 e1 => ?_)
      rw [h10, h11] at e1
      refine hx_copy (t := 10) (f := 11) e1 (by decide) (by decide) (fun H2 L2 e2 => ?_)
      refine hx_copy (t := 11) (f := 7) e2 (by decide) (by decide) (fun H3 L3 e3 => nm_r (nI_1 j) ?_)
      refine ih (j + 1) (by omega) H3 L3 P Q q (lN (uN p % uN q)) ?_ ?_ ?_ hz'
      · rw [e3, pk_uLn (by decide), pk_uLs, pk_uLn (by decide), pk_uLn (by decide), h11]
      · rw [e3, pk_uLs, pk_uLn (by decide), pk_uLn (by decide), pk_uLs]
      · intro i hi
        rw [e3, pk_uLn (by omega), pk_uLn (by omega), pk_uLn (by omega), pk_uLn (by omega), hk i hi]
theorem hy_gcd {post : Int32 → SY → Prop} {d : Nat} {z : Int64} (hd : d < 6) (h : post 1 (hw_y (vp_updL V d z))) : ∀ n j, j + n = 130 → ∀ (p q : Int64), hw_gc n p q = z → wY_divisor_67 post (nI d) (V 0) (V 1) (V 2) (V 3) (V 4) (V 5) (n + 1) p q (nI j) := by
  intro n
  induction n with
  | zero =>
    intro j hj p q hz
    obtain rfl : j = 130 := by omega
    have hz' : p = z := hz
    rw [hz']
    exact br_t (nI_le (a := 130) (by omega) (by decide)) (hy_set hd h)
  | succ n ih =>
    intro j hj p q hz
    have hz' : (if q = 0 then p else hw_gc n q (lN (uN p % uN q))) = z := hz
    refine br_f (nI_ge (b := 130) (by omega) (by decide)) (br_c (fun w => nm_r (nI_1 j) (ih (j + 1) (by omega) p q ?_)) (fun w => hy_divide w (fun y => absurd y (by decide)) (fun _ => nm_r (nI_1 j) (ih (j + 1) (by omega) q _ ?_))))
    · rw [if_pos w] at hz'
      rw [w, hw_gc0, hz']
    · rw [if_neg w] at hz'
      exact hz'
theorem hx_divisor {post : Int32 → SX → Prop} (hV : hw_V H L = V) {d a b : Nat} (hd : d < 6) (ha : a < 6) (hb : b < 6) (h : ∀ H' L' P' Q', (∀ i, i < 6 → hw_V H' L' i = vp_updL V d (hw_gc 130 (hw_mag (V a)) (hw_mag (V b))) i) → post 1 (H', L', P', Q')) : wpX_divisor post (H, L, P, Q) (nI d) (nI a) (nI b) := by
  unfold wpX_divisor
  dsimp only
  refine hx_regT hd (br_f (by decide) (hx_regT ha (br_f (by decide) (hx_regT hb (br_f (by decide) ?_)))))
  refine hx_magnitude hV (by omega) (fun H1 L1 e1 => ?_)
  refine hx_copy (t := 10) (f := 6) e1 (by decide) (by decide) (fun H2 L2 e2 => ?_)
  refine hx_magnitude e2 (by omega) (fun H3 L3 e3 => ?_)
  refine hx_copy (t := 11) (f := 6) e3 (by decide) (by decide) (fun H4 L4 e4 => ⟨130 + 1, ?_⟩)
  refine hx_gcd hd h 130 0 rfl H4 L4 P Q _ _ ?_ ?_ ?_ rfl
  · rw [e4, pk_uLn (by decide), pk_uLn (by decide), pk_uLs, pk_uLs]
  · rw [e4, pk_uLs, pk_uLs, pk_uLn (by omega), pk_uLn (by omega)]
  · intro i hi
    rw [e4, pk_uLn (by omega), pk_uLn (by omega), pk_uLn (by omega), pk_uLn (by omega)]
theorem hy_divisor {post : Int32 → SY → Prop} {d a b : Nat} (hd : d < 6) (ha : a < 6) (hb : b < 6) (h : post 1 (hw_y (vp_updL V d (hw_gc 130 (hw_mag (V a)) (hw_mag (V b)))))) : wpY_divisor post (V 0, V 1, V 2, V 3, V 4, V 5) (nI d) (nI a) (nI b) := by
  have inner : ∀ p, p = hw_mag (V a) → wY_divisor_52 post (nI d) p (V b) (V 0) (V 1) (V 2) (V 3) (V 4) (V 5) := by
    intro p hp
    unfold wY_divisor_52
    refine br_c (fun w => ⟨130 + 1, hy_gcd hd h 130 0 rfl _ _ ?_⟩) (fun w => nm_e ⟨130 + 1, hy_gcd hd h 130 0 rfl _ _ ?_⟩)
    · rw [hp]
      congr 1
      unfold hw_mag
      rw [if_pos w]
    · rw [hp]
      congr 1
      unfold hw_mag
      rw [if_neg w]
  unfold wpY_divisor
  dsimp only
  refine hy_regT hd (br_f (by decide) (hy_regT ha (br_f (by decide) (hy_regT hb (br_f (by decide) (hy_get ha (hy_get hb (br_c (fun w => inner _ ?_) (fun w => nm_e (inner _ ?_))))))))))
  · unfold hw_mag
    rw [if_pos w]
  · unfold hw_mag
    rw [if_neg w]
end
end
section
/-! root -/
def hw_rt (v : Nat) : Nat → Nat → Nat
  | 0, s => s
  | k + 1, s => hw_rt v k (if (s + 2 ^ k) * (s + 2 ^ k) ≤ v then s + 2 ^ k else s)
theorem hr_room {s k : Nat} (h : s + 2 ^ (k + 1) ≤ 4294967296) : s + 2 ^ k < 4294967296 ∧ s + 2 ^ k ≤ 4294967296 ∧ s + 2 ^ k + 2 ^ k ≤ 4294967296 := by
  rw [Nat.pow_succ] at h
  have := Nat.two_pow_pos k
  omega
theorem hr_tryX {s k m : Nat} (hk : k < 32) (hs : s = m * 2 ^ (k + 1)) (h : s + 2 ^ k < 4294967296) : nI s ||| ((1 : Int32) <<< (nI k &&& 31)) = nI (s + 2 ^ k) := by
  apply hw_uinj
  have hs2 : s < 4294967296 := by
    have := Nat.two_pow_pos k
    omega
  rw [hw_uor, hw_u1s hk, hw_un hs2, hw_un h, hs, hw_setN]
theorem hr_tryY {s k m : Nat} (hk : k < 32) (hs : s = m * 2 ^ (k + 1)) (h : s + 2 ^ k < 4294967296) : lN s ||| ((1 : Int64) <<< ((nI k).toInt64 &&& 63)) = lN (s + 2 ^ k) := by
  apply uN_inj
  have hs2 : s < 4294967296 := by
    have := Nat.two_pow_pos k
    omega
  rw [hw_Nor, hw_N1s (by omega), hw_NlN (by omega), hw_NlN (by omega), hs, hw_setN]
theorem hr_sq {t : Nat} (h : t < 4294967296) : t * t < 18446744073709551616 := by
  have := Nat.mul_le_mul (show t ≤ 4294967295 by omega) (show t ≤ 4294967295 by omega)
  omega
section
variable {H L P Q : Nat → Int32} {V : Nat → Int64} {f0 f1 f2 f3 f4 f5 : Int64}
theorem hx_rt {post : Int32 → SX → Prop} {d v z : Nat} (hd : d < 6) (h : ∀ H' L' P' Q', (∀ i, i < 6 → hw_V H' L' i = vp_updL V d (lN z) i) → post 1 (H', L', P', Q')) : ∀ k, k ≤ 32 → ∀ (H L P Q : Nat → Int32) (s m : Nat), uN (hw_V H L 8) = v → (∀ i, i < 6 → hw_V H L i = V i) → s = m * 2 ^ k → s + 2 ^ k ≤ 4294967296 → hw_rt v k s = z → wX_root_43 post (nI d) (k + 1) (nI s) (hw_c k) H L P Q := by
  intro k
  induction k with
  | zero =>
    intro _ H L P Q s m h8 hk hs hr hz
    rw [hw_c0]
    have hz' : s = z := hz
    refine br_t (by decide) (hx_load rfl (by omega) (fun H' L' e => h H' L' P Q (fun i hi => ?_)))
    rw [e, hw_j0n (by omega), hz']
    by_cases c : i = d
    · rw [c, pk_uLs, pk_uLs]
    · rw [pk_uLn c, pk_uLn c, hk i hi]
  | succ k ih =>
    intro hk32 H L P Q s m h8 hk hs hr hz
    have ih := ih (by omega)
    obtain ⟨r1, r2, r3⟩ := hr_room hr
    have hz' : hw_rt v k (if (s + 2 ^ k) * (s + 2 ^ k) ≤ v then s + 2 ^ k else s) = z := hz
    have hsq := hr_sq r1
    rw [hw_cs]
    refine br_f (nI_pos (by omega)) (nm_r (hr_tryX (by omega) hs r1) ?_)
    have q0 : s = 2 * m * 2 ^ k := hs.trans (hd_q0 m k)
    have q1 : s + 2 ^ k = (2 * m + 1) * 2 ^ k := by rw [hs, hd_q1]
    generalize s + 2 ^ k = t at r1 r3 hz' hsq q1
    refine hx_load (t := 9) rfl (by decide) (fun H1 L1 e1 => ?_)
    rw [hw_j0n r1] at e1
    refine hx_multiply (a := 9) (b := 9) e1 (by decide) (by decide) (fun H2 L2 P2 Q2 e2 => ?_)
    rw [pk_uLs, lN_mul] at e2
    have g6 : uN (hw_V H2 L2 6) = t * t := by rw [e2, pk_uLs, hw_NlN hsq]
    have g8 : uN (hw_V H2 L2 8) = v := by rw [e2, pk_uLn (by decide), pk_uLn (by decide), h8]
    have gk : ∀ i, i < 6 → hw_V H2 L2 i = V i := fun i hi => by rw [e2, pk_uLn (by omega), pk_uLn (by omega), hk i hi]
    refine hx_order (a := 6) (b := 8) rfl (by decide) (by decide) (fun w => br_f (by decide) (nm_e ?_)) (fun w => br_f (by decide) (nm_e ?_)) (fun w => br_t (by decide) (nm_e ?_))
    · rw [g6, g8] at w
      rw [if_pos (by omega)] at hz'
      exact ih H2 L2 P2 Q2 t (2 * m + 1) g8 gk q1 r3 hz'
    · have w2 := congrArg uN w
      rw [g6, g8] at w2
      rw [if_pos (by omega)] at hz'
      exact ih H2 L2 P2 Q2 t (2 * m + 1) g8 gk q1 r3 hz'
    · rw [g6, g8] at w
      rw [if_neg (by omega)] at hz'
      exact ih H2 L2 P2 Q2 s (2 * m) g8 gk q0 r2 hz'
theorem hy_rt {post : Int32 → SY → Prop} {d v z : Nat} (hd : d < 6) (hv : v < 9223372036854775808) (h : post 1 (hw_y (vp_updL V d (lN z)))) : ∀ k, k ≤ 32 → ∀ (s m : Nat), s = m * 2 ^ k → s + 2 ^ k ≤ 4294967296 → hw_rt v k s = z → wY_root_40 post (nI d) (lN v) (V 0) (V 1) (V 2) (V 3) (V 4) (V 5) (k + 1) (lN s) (hw_c k) := by
  intro k
  induction k with
  | zero =>
    intro _ s m hs hr hz
    have hz' : s = z := hz
    rw [hw_c0, hz']
    exact br_t (by decide) (hy_set hd h)
  | succ k ih =>
    intro hk32 s m hs hr hz
    have ih := ih (by omega)
    obtain ⟨r1, r2, r3⟩ := hr_room hr
    have hz' : hw_rt v k (if (s + 2 ^ k) * (s + 2 ^ k) ≤ v then s + 2 ^ k else s) = z := hz
    rw [hw_cs]
    refine br_f (nI_pos (by omega)) (nm_r (hr_tryY (by omega) hs r1) ?_)
    have q0 : s = 2 * m * 2 ^ k := hs.trans (hd_q0 m k)
    have q1 : s + 2 ^ k = (2 * m + 1) * 2 ^ k := by rw [hs, hd_q1]
    generalize s + 2 ^ k = t at r1 r3 hz' q1
    have c1 : (3037000499 : Int64) < lN t ↔ 3037000499 < t := pk_lLT (a := 3037000499) (by decide) (by omega)
    refine br_c (fun w => nm_e ?_) (fun w => br_c (fun y => nm_e ?_) (fun y => nm_e ?_))
    · have w2 := c1.mp w
      have big := Nat.mul_le_mul (show 3037000500 ≤ t by omega) (show 3037000500 ≤ t by omega)
      rw [if_neg (by omega)] at hz'
      exact ih s (2 * m) q0 r2 hz'
    · have w2 : t ≤ 3037000499 := Nat.le_of_not_lt (fun x => w (c1.mpr x))
      have big := Nat.mul_le_mul w2 w2
      rw [lN_mul, pk_lLT (by omega) (by omega)] at y
      rw [if_neg (by omega)] at hz'
      exact ih s (2 * m) q0 r2 hz'
    · have w2 : t ≤ 3037000499 := Nat.le_of_not_lt (fun x => w (c1.mpr x))
      have big := Nat.mul_le_mul w2 w2
      rw [lN_mul, pk_lLT (by omega) (by omega)] at y
      rw [if_pos (by omega)] at hz'
      exact ih t (2 * m + 1) q1 r3 hz'
theorem hx_root {post : Int32 → SX → Prop} (hV : hw_V H L = V) {d a : Nat} (hd : d < 6) (ha : a < 6) (hz : ¬ 0 ≤ V a → post (-2) (H, L, P, Q)) (h : 0 ≤ V a → ∀ H' L' P' Q', (∀ i, i < 6 → hw_V H' L' i = vp_updL V d (lN (hw_rt (uN (V a)) 32 0)) i) → post 1 (H', L', P', Q')) : wpX_root post (H, L, P, Q) (nI d) (nI a) := by
  unfold wpX_root
  dsimp only
  rw [hw_c12 (show a < 12 by omega)]
  have hp := hw_jpos (H a) (L a)
  have hq : hw_j (H a) (L a) = V a := congrFun hV a
  rw [hq] at hp
  refine hx_regT hd (br_f (by decide) (hx_regT ha (br_f (by decide) ⟨hw_i12 (by omega), br_c (fun w => ?_) (fun w => hz (fun y => w (hp.mpr y)))⟩)))
  refine hx_copy (t := 8) hV (by decide) (by omega) (fun H1 L1 e1 => ⟨32 + 1, ?_⟩)
  refine hx_rt hd (h (hp.mp w)) 32 (by decide) H1 L1 P Q 0 0 ?_ ?_ (by omega) (by omega) rfl
  · rw [e1, pk_uLs]
  · intro i hi
    rw [e1, pk_uLn (by omega)]
theorem hy_root {post : Int32 → SY → Prop} {d a : Nat} (hd : d < 6) (ha : a < 6) (hz : ¬ 0 ≤ V a → post (-2) (hw_y V)) (h : 0 ≤ V a → post 1 (hw_y (vp_updL V d (lN (hw_rt (uN (V a)) 32 0))))) : wpY_root post (V 0, V 1, V 2, V 3, V 4, V 5) (nI d) (nI a) := by
  unfold wpY_root
  dsimp only
  refine hy_regT hd (br_f (by decide) (hy_regT ha (br_f (by decide) (hy_get ha (br_c (fun w => ⟨32 + 1, ?_⟩) hz)))))
  have loop := hy_rt (V := V) hd ((hw_Npos _).mp w) (h w) 32 (by decide) 0 0 (by omega) (by omega) rfl
  rw [hw_lNu] at loop
  exact loop
/-! decimal digits -/
def hw_nd (m c : Nat) : Prop := 1 ≤ c ∧ m < 10 ^ c ∧ (c = 1 ∨ 10 ^ (c - 1) ≤ m)
theorem hw_p10 {a b : Nat} (h : a ≤ b) : 10 ^ a ≤ 10 ^ b := Nat.pow_le_pow_right (by decide) h
theorem hw_ndle {m c c' : Nat} (h : hw_nd m c) (h' : hw_nd m c') : c ≤ c' := by
  obtain ⟨a1, a2, a3⟩ := h
  obtain ⟨b1, b2, b3⟩ := h'
  refine Nat.le_of_not_lt (fun w => ?_)
  rcases a3 with a3 | a3
  · omega
  · have := hw_p10 (show c' ≤ c - 1 by omega)
    omega
theorem hw_ndu {m c c' : Nat} (h : hw_nd m c) (h' : hw_nd m c') : c = c' := Nat.le_antisymm (hw_ndle h h') (hw_ndle h' h)
theorem hw_nd19 {m c : Nat} (h : hw_nd m c) (hm : m < 10 ^ 19) : c ≤ 19 := by
  obtain ⟨a1, a2, a3⟩ := h
  refine Nat.le_of_not_lt (fun w => ?_)
  rcases a3 with a3 | a3
  · omega
  · have := hw_p10 (show 19 ≤ c - 1 by omega)
    omega
theorem hw_ndlt {m c k : Nat} (h : hw_nd m c) : k < c ↔ (k = 0 ∨ 10 ^ k ≤ m) := by
  obtain ⟨a1, a2, a3⟩ := h
  constructor
  · intro w
    rcases Nat.eq_zero_or_pos k with e | e
    · exact Or.inl e
    · refine Or.inr ?_
      rcases a3 with a3 | a3
      · omega
      · exact Nat.le_trans (hw_p10 (by omega)) a3
  · intro w
    rcases w with w | w
    · omega
    · refine Nat.lt_of_not_le (fun y => ?_)
      have := hw_p10 y
      omega
theorem hw_div10 (m c : Nat) : m / 10 ^ c / 10 = m / 10 ^ (c + 1) := by rw [Nat.div_div_eq_div_mul, Nat.pow_succ]
theorem hw_dz {m c : Nat} : m / 10 ^ c = 0 ↔ m < 10 ^ c := by
  constructor
  · intro w
    rcases Nat.div_eq_zero_iff.mp w with y | y
    · exact absurd y (Nat.ne_of_gt (Nat.pow_pos (by decide)))
    · exact y
  · exact Nat.div_eq_of_lt
theorem hw_l0 {n : Nat} (h : n < 18446744073709551616) : lN n = 0 ↔ n = 0 := by
  rw [hw_Neq, hw_NlN h, hw_N0]
theorem hx_ten {post : SX → Prop} {m : Nat} (hm : m < 18446744073709551616) (h11 : hw_V H L 11 = lN m) (h : ∀ H' L', hw_V H' L' 11 = lN (m / 10) → hw_V H' L' 7 = lN (m % 10) → (∀ i, i < 6 → hw_V H' L' i = hw_V H L i) → post (H', L', P, Q)) : wpX_divideByTen post (H, L, P, Q) := by
  unfold wpX_divideByTen
  dsimp only
  have e10 : hw_j 0 10 = 10 := hw_j0n (n := 10) (by decide)
  have n10 : uN 10 = 10 := by decide
  refine hx_load (t := 10) rfl (by decide) (fun H1 L1 e1 => ?_)
  rw [e10] at e1
  refine hx_divU (a := 11) (b := 10) e1 (by decide) (by decide) (by decide) (by decide) (by decide) (by decide) (by rw [pk_uLs]; decide) (fun H2 L2 e2 => ?_)
  rw [pk_uLs, pk_uLn (show (11 : Nat) ≠ 10 by decide), h11, hw_NlN hm, n10] at e2
  refine hx_copy (t := 11) (f := 6) e2 (by decide) (by decide) (fun H3 L3 e3 => h H3 L3 ?_ ?_ (fun i hi => ?_))
  · rw [e3, pk_uLs, pk_uLs]
  · rw [e3, pk_uLn (by decide), pk_uLn (by decide), pk_uLs]
  · rw [e3, pk_uLn (by omega), pk_uLn (by omega), pk_uLn (by omega), pk_uLn (by omega)]
theorem hx_dg {post : Int32 → SX → Prop} {M : Nat} (hM : M < 18446744073709551616) (h : ∀ c H' L' P' Q', hw_nd M c → (∀ i, i < 6 → hw_V H' L' i = V i) → post (nI c) (H', L', P', Q')) : ∀ d c, c + d = 20 → ∀ (H L P Q : Nat → Int32), hw_V H L 11 = lN (M / 10 ^ c) → (∀ i, i < 6 → hw_V H L i = V i) → (c = 0 ∨ c = 1 ∨ 10 ^ (c - 1) ≤ M) → wX_digits_25 post (d + 1) (nI c) H L P Q := by
  have small : ∀ c, M / 10 ^ c < 18446744073709551616 := fun c => Nat.lt_of_le_of_lt (Nat.div_le_self _ _) hM
  intro d
  induction d with
  | zero =>
    intro c hc H L P Q h11 hk hI
    obtain rfl : c = 20 := by omega
    have z : M < 10 ^ 20 := by omega
    rw [hw_dz.mpr z] at h11
    refine br_f (by decide) (hx_isZero (a := 11) rfl (by decide) (fun w => br_f (by decide) (h 20 H L P Q ⟨by decide, z, by omega⟩ hk)) (fun w => absurd h11 w))
  | succ d ih =>
    intro c hc H L P Q h11 hk hI
    have go : (c = 0 ∨ 10 ^ c ≤ M) → wX_digits_38 post (wX_digits_25 post (d + 1)) (nI c) H L P Q := by
      intro hg
      unfold wX_digits_38
      refine hx_ten (small c) h11 (fun H' L' g11 _ gk => nm_r (nI_1 c) ?_)
      rw [hw_div10] at g11
      refine ih (c + 1) (by omega) H' L' P Q g11 (fun i hi => (gk i hi).trans (hk i hi)) ?_
      rcases hg with e | e
      · exact Or.inr (Or.inl (by omega))
      · exact Or.inr (Or.inr e)
    refine pk_eq c 0 (fun z => go (Or.inl z)) (fun z => hx_isZero (a := 11) rfl (by decide) (fun w => br_f (by decide) ?_) (fun w => br_t rfl (go ?_)))
    · rw [h11, hw_l0 (small c)] at w
      exact h c H L P Q ⟨by omega, hw_dz.mp w, hI.resolve_left z⟩ hk
    · rw [h11, hw_l0 (small c)] at w
      exact Or.inr (Nat.le_of_not_lt (fun y => w (hw_dz.mpr y)))
theorem hx_digits {post : Int32 → SX → Prop} (hV : hw_V H L = V) {r : Nat} (hr : r < 6) (h : ∀ c H' L' P' Q', hw_nd (V r).toInt.natAbs c → (∀ i, i < 6 → hw_V H' L' i = V i) → post (nI c) (H', L', P', Q')) : wpX_digits post (H, L, P, Q) (nI r) := by
  unfold wpX_digits
  dsimp only
  refine hx_regT hr (br_f (by decide) (hx_magnitude hV (by omega) (fun H1 L1 e1 => ?_)))
  refine hx_copy (t := 11) (f := 6) e1 (by decide) (by decide) (fun H2 L2 e2 => ⟨20 + 1, ?_⟩)
  have hM : (V r).toInt.natAbs < 18446744073709551616 := by
    rw [← hw_magN]
    exact uN_lt _
  refine hx_dg hM h 20 0 rfl H2 L2 P Q ?_ (fun i hi => ?_) (Or.inl rfl)
  · rw [e2, pk_uLs, pk_uLs, Nat.pow_zero, Nat.div_one, ← hw_magN, hw_lNu]
  · rw [e2, pk_uLn (by omega), pk_uLn (by omega)]
theorem hw_low7 {x : Nat} (hx : x < 4294967296) {h l : Int32} (e : hw_j h l = lN x) : l = nI x := by
  have e2 := congrArg uN e
  have hl := hw_ult l
  rw [hw_jN, hw_NlN (by omega)] at e2
  apply hw_uinj
  rw [hw_un hx]
  omega
theorem hx_dk {post : Int32 → SX → Prop} {M k : Nat} (hk19 : k ≤ 19) (hM : M < 18446744073709551616) (hbad : 1 ≤ k → M < 10 ^ k → ∀ H' L' P' Q', (∀ i, i < 6 → hw_V H' L' i = V i) → post (-1) (H', L', P', Q')) (hgood : (k = 0 ∨ 10 ^ k ≤ M) → ∀ H' L' P' Q', (∀ i, i < 6 → hw_V H' L' i = V i) → post (nI (M / 10 ^ k % 10)) (H', L', P', Q')) : ∀ d i, i + d = k → ∀ (H L P Q : Nat → Int32), hw_V H L 11 = lN (M / 10 ^ i) → (∀ i, i < 6 → hw_V H L i = V i) → (i = 0 ∨ 10 ^ i ≤ M) → wX_digit_35 post (nI k) (d + 1) (nI i) H L P Q := by
  have small : ∀ c, M / 10 ^ c < 18446744073709551616 := fun c => Nat.lt_of_le_of_lt (Nat.div_le_self _ _) hM
  intro d
  induction d with
  | zero =>
    intro i hi H L P Q h11 hk hI
    obtain rfl : i = k := by omega
    refine br_t (nI_le (by omega) (by omega)) (hx_ten (small i) h11 (fun H' L' g11 g7 gk => ?_))
    have e : L' 7 = nI (M / 10 ^ i % 10) := hw_low7 (by omega) g7
    dsimp only
    rw [e]
    exact hgood hI H' L' P Q (fun j hj => (gk j hj).trans (hk j hj))
  | succ d ih =>
    intro i hi H L P Q h11 hk hI
    refine br_f (nI_ge (by omega) (by omega)) (hx_ten (small i) h11 (fun H' L' g11 g7 gk => ?_))
    rw [hw_div10] at g11
    have gk' : ∀ i, i < 6 → hw_V H' L' i = V i := fun j hj => (gk j hj).trans (hk j hj)
    refine hx_isZero (a := 11) rfl (by decide) (fun w => br_f (by decide) ?_) (fun w => br_t rfl (nm_r (nI_1 i) ?_))
    · rw [g11, hw_l0 (small _), hw_dz] at w
      have := hw_p10 (show i + 1 ≤ k by omega)
      exact hbad (by omega) (by omega) H' L' P Q gk'
    · rw [g11, hw_l0 (small _), hw_dz] at w
      exact ih (i + 1) (by omega) H' L' P Q g11 gk' (Or.inr (by omega))
theorem hx_digit {post : Int32 → SX → Prop} (hV : hw_V H L = V) {r k : Nat} (hr : r < 6) (hk : k ≤ 19) (hbad : 1 ≤ k → (V r).toInt.natAbs < 10 ^ k → ∀ H' L' P' Q', (∀ i, i < 6 → hw_V H' L' i = V i) → post (-1) (H', L', P', Q')) (hgood : (k = 0 ∨ 10 ^ k ≤ (V r).toInt.natAbs) → ∀ H' L' P' Q', (∀ i, i < 6 → hw_V H' L' i = V i) → post (nI ((V r).toInt.natAbs / 10 ^ k % 10)) (H', L', P', Q')) : wpX_digit post (H, L, P, Q) (nI r) (nI k) := by
  unfold wpX_digit
  dsimp only
  refine hx_regT hr (br_f (by decide) (br_f (nI_pos (by omega)) (br_t (nI_le (b := 19) hk (by decide)) (hx_magnitude hV (by omega) (fun H1 L1 e1 => ?_)))))
  refine hx_copy (t := 11) (f := 6) e1 (by decide) (by decide) (fun H2 L2 e2 => ⟨k + 1, ?_⟩)
  have hM : (V r).toInt.natAbs < 18446744073709551616 := by
    rw [← hw_magN]
    exact uN_lt _
  refine hx_dk hk hM hbad hgood k 0 (by omega) H2 L2 P Q ?_ (fun i hi => ?_) (Or.inl rfl)
  · rw [e2, pk_uLs, pk_uLs, Nat.pow_zero, Nat.div_one, ← hw_magN, hw_lNu]
  · rw [e2, pk_uLn (by omega), pk_uLn (by omega)]
/-! the reference's digits: the value is kept negative -/
theorem hn_toInt {m : Nat} (hm : m ≤ 2 ^ 63) : (-lN m).toInt = -(m : Int) := Int64.toInt_neg_ofNat_of_le hm
theorem hn_div {m : Nat} (hm : m ≤ 2 ^ 63) : -lN m / 10 = -lN (m / 10) := by
  rw [hw_divI, hn_toInt hm, show (10 : Int64).toInt = ((10 : Nat) : Int) from by decide, Int.neg_tdiv, ← Int.ofNat_tdiv, Int64.ofInt_neg, ← hw_lNI]
theorem hn_rem {m : Nat} (hm : m ≤ 2 ^ 63) : (-(-lN m - -lN m / 10 * 10)).toInt32 = nI (m % 10) := by
  have e : -lN m - -lN m / 10 * 10 = -lN (m % 10) := by
    have e1 : -lN m - -lN m / 10 * 10 = Int64.ofInt ((-lN m).toInt.tmod (10 : Int64).toInt) := by
      rw [Int.tmod_def, Int64.ofInt_sub, Int.mul_comm, Int64.ofInt_mul, ← hw_divI, Int64.ofInt_toInt, Int64.ofInt_toInt]
    rw [e1, hn_toInt hm, show (10 : Int64).toInt = ((10 : Nat) : Int) from by decide, Int.neg_tmod, ← Int.ofNat_tmod, Int64.ofInt_neg, ← hw_lNI]
  rw [e, Int64.neg_neg, lN_i]
theorem hy_dO17 {pp : Int32 → Prop} {k : Nat} (hk : k < 2 ^ 31) : ∀ d i, i + d = k → ∀ m, m ≤ 2 ^ 63 → pp (nI (m / 10 ^ d % 10)) → wY_digitOf_17 pp (nI k) f0 f1 f2 f3 f4 f5 (d + 1) (-lN m) (nI i) := by
  intro d
  induction d with
  | zero =>
    intro i hi m hm h
    obtain rfl : i = k := by omega
    rw [Nat.pow_zero, Nat.div_one, ← hn_rem hm] at h
    exact br_t (nI_le (by omega) (by omega)) ⟨by decide, h⟩
  | succ d ih =>
    intro i hi m hm h
    refine br_f (nI_ge (by omega) (by omega)) ⟨by decide, nm_r (hn_div hm) (nm_r (nI_1 i) (ih (i + 1) (by omega) (m / 10) (by omega) ?_))⟩
    rw [Nat.div_div_eq_div_mul, ← Nat.pow_succ']
    exact h
theorem hw_neg0' (x : Int64) (h : x ≤ 0) : x = -lN x.toInt.natAbs := by
  have h0 : (0 : Int64).toInt = 0 := by decide
  rw [Int64.le_iff_toInt_le, h0] at h
  rw [hw_lNI, ← Int64.ofInt_neg]
  have e : -((x.toInt.natAbs : Nat) : Int) = x.toInt := by omega
  rw [e]
  exact hw_ofI x
theorem hw_neg1' (x : Int64) (h : ¬ x ≤ 0) : -x = -lN x.toInt.natAbs := by
  have h0 : (0 : Int64).toInt = 0 := by decide
  rw [Int64.le_iff_toInt_le, h0] at h
  rw [hw_lNI]
  have e : ((x.toInt.natAbs : Nat) : Int) = x.toInt := by omega
  rw [e, Int64.ofInt_toInt]
theorem hw_nab (x : Int64) : x.toInt.natAbs ≤ 2 ^ 63 := by
  have h1 := x.le_toInt
  have h2 := x.toInt_lt
  omega
theorem hy_digitOf {pp : Int32 → Prop} {x : Int64} {k : Nat} (hk : k < 2 ^ 31) (h : pp (nI (x.toInt.natAbs / 10 ^ k % 10))) : wpY_digitOf pp (f0, f1, f2, f3, f4, f5) x (nI k) := by
  refine br_c (fun w => ⟨k + 1, ?_⟩) (fun w => nm_r (hw_neg1' x w) ⟨k + 1, hy_dO17 hk k 0 (by omega) _ (hw_nab x) h⟩)
  have z := hy_dO17 (f0 := f0) (f1 := f1) (f2 := f2) (f3 := f3) (f4 := f4) (f5 := f5) hk k 0 (by omega) _ (hw_nab x) h
  rw [← hw_neg0' x w] at z
  exact z
theorem hy_dg {pp : Int32 → Prop} {x : Int64} (h : ∀ c, hw_nd x.toInt.natAbs c → pp (nI c)) : ∀ d j, j + d = 19 → 1 ≤ j → ∀ c, c < 20 → hw_nd (x.toInt.natAbs % 10 ^ j) c → wY_digits_22 pp x f0 f1 f2 f3 f4 f5 (d + 1) (nI c) (nI j) := by
  have hx := hw_nab x
  intro d
  induction d with
  | zero =>
    intro j hj _ c hc hn
    obtain rfl : j = 19 := by omega
    rw [Nat.mod_eq_of_lt (by omega)] at hn
    exact br_t (nI_le (a := 19) (by omega) (by decide)) (h c hn)
  | succ d ih =>
    intro j hj h1 c hc hn
    have hs := Nat.mod_pow_succ (b := 10) (k := j) (x := x.toInt.natAbs)
    have hpos : 0 < 10 ^ j := Nat.pow_pos (by decide)
    have hlt := Nat.mod_lt x.toInt.natAbs (Nat.pow_pos (n := j + 1) (show 0 < 10 by decide))
    have hm := Nat.mod_lt (x.toInt.natAbs / 10 ^ j) (show 0 < 10 by decide)
    refine br_f (nI_ge (b := 19) (by omega) (by decide)) (hy_digitOf (by omega) (pk_eq (x.toInt.natAbs / 10 ^ j % 10) 0 (fun z => nm_r (nI_1 j) ?_) (fun z => nm_r (nI_1 j) (nm_r (nI_1 j) ?_))))
    · refine ih (j + 1) (by omega) (by omega) c hc ?_
      rw [hs, z, Nat.mul_zero, Nat.add_zero]
      exact hn
    · refine ih (j + 1) (by omega) (by omega) (j + 1) (by omega) ⟨by omega, hlt, Or.inr ?_⟩
      have e := Nat.mul_le_mul_left (10 ^ j) (show 1 ≤ x.toInt.natAbs / 10 ^ j % 10 by omega)
      rw [Nat.mul_one] at e
      rw [hs, Nat.add_sub_cancel]
      omega
theorem hy_digits {pp : Int32 → Prop} {r : Nat} (hr : r < 6) (h : ∀ c, hw_nd (V r).toInt.natAbs c → pp (nI c)) : wpY_digits pp (V 0, V 1, V 2, V 3, V 4, V 5) (nI r) := by
  unfold wpY_digits
  dsimp only
  exact hy_regT hr (br_f (by decide) (hy_get hr ⟨18 + 1, hy_dg h 18 1 rfl (by decide) 1 (by decide) ⟨by decide, Nat.mod_lt _ (by decide), Or.inl rfl⟩⟩))
theorem hy_digit {pp : Int32 → Prop} {r k : Nat} (hr : r < 6) (hk : k < 2 ^ 31) (hbad : ¬ (k = 0 ∨ 10 ^ k ≤ (V r).toInt.natAbs) → pp (-1)) (hgood : (k = 0 ∨ 10 ^ k ≤ (V r).toInt.natAbs) → pp (nI ((V r).toInt.natAbs / 10 ^ k % 10))) : wpY_digit pp (V 0, V 1, V 2, V 3, V 4, V 5) (nI r) (nI k) := by
  have hx := hw_nab (V r)
  unfold wpY_digit
  dsimp only
  refine hy_regT hr (br_f (by decide) (br_f (nI_pos hk) (hy_digits hr (fun c hc => ?_))))
  have h19 := hw_nd19 hc (by omega)
  have hl := hw_ndlt (k := k) hc
  refine pk_lt k c (fun w => hy_get hr (hy_digitOf hk (hgood (hl.mp w)))) (fun w => hbad (fun y => ?_))
  have := hl.mpr y
  omega
end
end
section
/-! what is owed -/
/-- the reference's registers are the longs at the first six places; the work places and the pieces are free -/
def i_Rel (k : Nat) (u : SX) (v : SY) : Prop := v = hw_y (hw_V u.1 u.2.1)
theorem i_up {k : Nat} {u : SX} {v : SY} (h : i_Rel k u v) : i_Rel (k + 5) u v := h
theorem i_vc0 : wpX_init (fun u => wpY_init (fun v => i_Rel 0 u v)) := by
  show ((0 : Int64), (0 : Int64), (0 : Int64), (0 : Int64), (0 : Int64), (0 : Int64)) = (hw_j 0 0, hw_j 0 0, hw_j 0 0, hw_j 0 0, hw_j 0 0, hw_j 0 0)
  have z : hw_j 0 0 = 0 := by decide
  rw [z]
theorem io_rel {k : Nat} {H L P Q : Nat → Int32} {V : Nat → Int64} (h : ∀ i, i < 6 → hw_V H L i = V i) : i_Rel k (H, L, P, Q) (hw_y V) := hw_yk (fun i hi => (h i hi).symm)
theorem i_vc_set {k : Nat} {u : SX} {v : SY} (I : i_Rel k u v) (hk : k + 5 ≤ 2560) (v1 : Int32) (a1 : Int64) : wpX_set (fun r u' => wpY_set (fun r' v' => r' = r ∧ i_Rel (k + 5) u' v') v v1 a1) u v1 a1 := by
  obtain ⟨H, L, P, Q⟩ := u
  have I' : v = hw_y (hw_V H L) := I
  subst I'
  rcases hw_reg v1 with hb | ⟨r, hr, rfl⟩
  · unfold wpX_set
    dsimp only
    refine hx_regB hb (br_t rfl ?_)
    unfold wpY_set
    exact hy_regB hb (br_t rfl ⟨rfl, rfl⟩)
  · unfold wpX_set
    dsimp only
    rw [hw_c12 (show r < 12 by omega)]
    refine hx_regT hr (br_f (by decide) ⟨hw_i12 (by omega), nm_e ⟨hw_i12 (by omega), nm_e ?_⟩⟩)
    refine hy_set (V := hw_V H L) hr ⟨rfl, ?_⟩
    show hw_y _ = hw_y (hw_V (upd H r _) (upd L r _))
    rw [hw_Vu, hw_split]
theorem i_vc_get {k : Nat} {u : SX} {v : SY} (I : i_Rel k u v) (hk : k + 5 ≤ 2560) (v1 : Int32) : wpX_get (fun r => wpY_get (fun r' => r' = r ∧ i_Rel (k + 5) u v) v v1) u v1 := by
  obtain ⟨H, L, P, Q⟩ := u
  have I' : v = hw_y (hw_V H L) := I
  subst I'
  rcases hw_reg v1 with hb | ⟨r, hr, rfl⟩
  · unfold wpX_get
    dsimp only
    exact hx_regB hb (br_t rfl (hy_getB hb ⟨rfl, rfl⟩))
  · unfold wpX_get
    dsimp only
    rw [hw_c12 (show r < 12 by omega), hw_join]
    exact hx_regT hr (br_f (by decide) ⟨hw_i12 (by omega), hw_i12 (by omega), hy_get (V := hw_V H L) hr ⟨rfl, rfl⟩⟩)
theorem i_vc_apply {k : Nat} {u : SX} {v : SY} (I : i_Rel k u v) (hk : k + 5 ≤ 2560) (v1 : Int32) (v2 : Int32) (v3 : Int32) (v4 : Int32) : wpX_apply (fun r u' => wpY_apply (fun r' v' => r' = r ∧ i_Rel (k + 5) u' v') v v1 v2 v3 v4) u v1 v2 v3 v4 := by
  obtain ⟨H, L, P, Q⟩ := u
  have I' : v = hw_y (hw_V H L) := I
  subst I'
  by_cases n0 : v1 < 0
  · unfold wpX_apply
    dsimp only
    refine br_t n0 ?_
    unfold wpY_apply
    exact br_t n0 ⟨rfl, rfl⟩
  by_cases n15 : 15 < v1
  · unfold wpX_apply
    dsimp only
    refine br_f n0 (br_t n15 ?_)
    unfold wpY_apply
    exact br_f n0 (br_t n15 ⟨rfl, rfl⟩)
  rcases hw_reg v2 with hb | ⟨d, hd, rfl⟩
  · unfold wpX_apply
    dsimp only
    refine br_f n0 (br_f n15 (hx_regB hb (br_t rfl ?_)))
    unfold wpY_apply
    exact br_f n0 (br_f n15 (hy_regB hb (br_t rfl ⟨rfl, rfl⟩)))
  rcases hw_reg v3 with hb | ⟨a, ha, rfl⟩
  · unfold wpX_apply
    dsimp only
    refine br_f n0 (br_f n15 (hx_regT hd (br_f (by decide) (hx_regB hb (br_t rfl ?_)))))
    unfold wpY_apply
    exact br_f n0 (br_f n15 (hy_regT hd (br_f (by decide) (hy_regB hb (br_t rfl ⟨rfl, rfl⟩)))))
  rcases hw_reg v4 with hb | ⟨b, hb, rfl⟩
  · unfold wpX_apply
    dsimp only
    refine br_f n0 (br_f n15 (hx_regT hd (br_f (by decide) (hx_regT ha (br_f (by decide) (hx_regB hb (br_t rfl ?_)))))))
    unfold wpY_apply
    exact br_f n0 (br_f n15 (hy_regT hd (br_f (by decide) (hy_regT ha (br_f (by decide) (hy_regB hb (br_t rfl ⟨rfl, rfl⟩)))))))
  obtain ⟨o, ho, rfl⟩ := nI_of2 (M := 15) (n := 15) (by decide) n0 (Int32.not_lt.mp n15)
  refine hx_apply rfl (by omega) hd ha hb (fun dv z => ?_) (fun dv H' L' P' Q' e => ?_)
  · exact hy_apply (V := hw_V H L) (by omega) hd ha hb (fun _ _ => ⟨rfl, rfl⟩) (fun w => absurd z (w dv))
  · exact hy_apply (V := hw_V H L) (by omega) hd ha hb (fun d z => absurd z (dv d)) (fun _ => ⟨rfl, io_rel e⟩)
theorem i_vc_typeDigit {k : Nat} {u : SX} {v : SY} (I : i_Rel k u v) (hk : k + 5 ≤ 2560) (v1 : Int32) (v2 : Int32) : wpX_typeDigit (fun r u' => wpY_typeDigit (fun r' v' => r' = r ∧ i_Rel (k + 5) u' v') v v1 v2) u v1 v2 := by
  obtain ⟨H, L, P, Q⟩ := u
  have I' : v = hw_y (hw_V H L) := I
  subst I'
  rcases hw_reg v1 with hb | ⟨d, hd, rfl⟩
  · unfold wpX_typeDigit
    dsimp only
    refine hx_regB hb (br_t rfl ?_)
    unfold wpY_typeDigit
    exact hy_regB hb (br_t rfl ⟨rfl, rfl⟩)
  by_cases n0 : v2 < 0
  · unfold wpX_typeDigit
    dsimp only
    refine hx_regT hd (br_f (by decide) (br_t n0 ?_))
    unfold wpY_typeDigit
    exact hy_regT hd (br_f (by decide) (br_t n0 ⟨rfl, rfl⟩))
  by_cases n9 : v2 ≤ 9
  · obtain ⟨g, hg, rfl⟩ := nI_of2 (M := 9) (n := 9) (by decide) n0 n9
    exact hx_typeDigit rfl hd (by omega) (fun H' L' P' Q' e => hy_typeDigit (V := hw_V H L) hd (by omega) ⟨rfl, io_rel e⟩)
  · unfold wpX_typeDigit
    dsimp only
    refine hx_regT hd (br_f (by decide) (br_f n0 (br_f n9 ?_)))
    unfold wpY_typeDigit
    exact hy_regT hd (br_f (by decide) (br_f n0 (br_f n9 ⟨rfl, rfl⟩)))
theorem i_vc_digits {k : Nat} {u : SX} {v : SY} (I : i_Rel k u v) (hk : k + 5 ≤ 2560) (v1 : Int32) : wpX_digits (fun r u' => wpY_digits (fun r' => r' = r ∧ i_Rel (k + 5) u' v) v v1) u v1 := by
  obtain ⟨H, L, P, Q⟩ := u
  have I' : v = hw_y (hw_V H L) := I
  subst I'
  rcases hw_reg v1 with hb | ⟨r, hr, rfl⟩
  · unfold wpX_digits
    dsimp only
    refine hx_regB hb (br_t rfl ?_)
    unfold wpY_digits
    exact hy_regB hb (br_t rfl ⟨rfl, rfl⟩)
  · refine hx_digits rfl hr (fun c H' L' P' Q' hc e => hy_digits (V := hw_V H L) hr (fun c' hc' => ⟨?_, io_rel e⟩))
    rw [hw_ndu hc hc']
theorem i_vc_digit {k : Nat} {u : SX} {v : SY} (I : i_Rel k u v) (hk : k + 5 ≤ 2560) (v1 : Int32) (v2 : Int32) : wpX_digit (fun r u' => wpY_digit (fun r' => r' = r ∧ i_Rel (k + 5) u' v) v v1 v2) u v1 v2 := by
  obtain ⟨H, L, P, Q⟩ := u
  have I' : v = hw_y (hw_V H L) := I
  subst I'
  rcases hw_reg v1 with hb | ⟨r, hr, rfl⟩
  · unfold wpX_digit
    dsimp only
    refine hx_regB hb (br_t rfl ?_)
    unfold wpY_digit
    exact hy_regB hb (br_t rfl ⟨rfl, rfl⟩)
  by_cases n0 : v2 < 0
  · unfold wpX_digit
    dsimp only
    refine hx_regT hr (br_f (by decide) (br_t n0 ?_))
    unfold wpY_digit
    exact hy_regT hr (br_f (by decide) (br_t n0 ⟨rfl, rfl⟩))
  obtain ⟨g, hg, rfl⟩ := nI_of n0
  by_cases n19 : g ≤ 19
  · refine hx_digit rfl hr n19 (fun h1 h2 H' L' P' Q' e => ?_) (fun h1 H' L' P' Q' e => ?_)
    · exact hy_digit (V := hw_V H L) hr hg (fun _ => ⟨rfl, io_rel e⟩) (fun w => absurd w (by omega))
    · exact hy_digit (V := hw_V H L) hr hg (fun w => absurd h1 w) (fun _ => ⟨rfl, io_rel e⟩)
  · have n19' : ¬ nI g ≤ 19 := nI_ge (a := 19) (by omega) hg
    unfold wpX_digit
    dsimp only
    refine hx_regT hr (br_f (by decide) (br_f n0 (br_f n19' ?_)))
    refine hy_digit (V := hw_V H L) hr hg (fun _ => ⟨rfl, rfl⟩) (fun w => ?_)
    have hx := hw_nab (hw_V H L r)
    have hp := hw_p10 (show 19 ≤ g by omega)
    exact absurd w (by omega)
theorem i_vc_root {k : Nat} {u : SX} {v : SY} (I : i_Rel k u v) (hk : k + 5 ≤ 2560) (v1 : Int32) (v2 : Int32) : wpX_root (fun r u' => wpY_root (fun r' v' => r' = r ∧ i_Rel (k + 5) u' v') v v1 v2) u v1 v2 := by
  obtain ⟨H, L, P, Q⟩ := u
  have I' : v = hw_y (hw_V H L) := I
  subst I'
  rcases hw_reg v1 with hb | ⟨d, hd, rfl⟩
  · unfold wpX_root
    dsimp only
    refine hx_regB hb (br_t rfl ?_)
    unfold wpY_root
    exact hy_regB hb (br_t rfl ⟨rfl, rfl⟩)
  rcases hw_reg v2 with hb | ⟨a, ha, rfl⟩
  · unfold wpX_root
    dsimp only
    refine hx_regT hd (br_f (by decide) (hx_regB hb (br_t rfl ?_)))
    unfold wpY_root
    exact hy_regT hd (br_f (by decide) (hy_regB hb (br_t rfl ⟨rfl, rfl⟩)))
  refine hx_root rfl hd ha (fun z => ?_) (fun z H' L' P' Q' e => ?_)
  · exact hy_root (V := hw_V H L) hd ha (fun _ => ⟨rfl, rfl⟩) (fun w => absurd w z)
  · exact hy_root (V := hw_V H L) hd ha (fun w => absurd z w) (fun _ => ⟨rfl, io_rel e⟩)
theorem i_vc_leadingZeros {k : Nat} {u : SX} {v : SY} (I : i_Rel k u v) (hk : k + 5 ≤ 2560) (v1 : Int32) : wpX_leadingZeros (fun r => wpY_leadingZeros (fun r' => r' = r ∧ i_Rel (k + 5) u v) v v1) u v1 := by
  obtain ⟨H, L, P, Q⟩ := u
  have I' : v = hw_y (hw_V H L) := I
  subst I'
  rcases hw_reg v1 with hb | ⟨r, hr, rfl⟩
  · unfold wpX_leadingZeros
    dsimp only
    refine hx_regB hb (br_t rfl ?_)
    unfold wpY_leadingZeros
    exact hy_regB hb (br_t rfl ⟨rfl, rfl⟩)
  · obtain ⟨z, hX, hY⟩ := hw_lead (P := P) (Q := Q) (f0 := hw_V H L 0) (f1 := hw_V H L 1) (f2 := hw_V H L 2) (f3 := hw_V H L 3) (f4 := hw_V H L 4) (f5 := hw_V H L 5) (hV := (rfl : hw_V H L = hw_V H L)) hr 64 0 rfl
    unfold wpX_leadingZeros
    dsimp only
    refine hx_regT hr (br_f (by decide) ⟨64 + 1, hX _ ?_⟩)
    unfold wpY_leadingZeros
    exact hy_regT hr (br_f (by decide) (hy_get (V := hw_V H L) hr ⟨64 + 1, hY _ ⟨rfl, rfl⟩⟩))
theorem i_vc_power {k : Nat} {u : SX} {v : SY} (I : i_Rel k u v) (hk : k + 5 ≤ 2560) (v1 : Int32) (v2 : Int32) (v3 : Int32) : wpX_power (fun r u' => wpY_power (fun r' v' => r' = r ∧ i_Rel (k + 5) u' v') v v1 v2 v3) u v1 v2 v3 := by
  obtain ⟨H, L, P, Q⟩ := u
  have I' : v = hw_y (hw_V H L) := I
  subst I'
  rcases hw_reg v1 with hb | ⟨d, hd, rfl⟩
  · unfold wpX_power
    dsimp only
    refine hx_regB hb (br_t rfl ?_)
    unfold wpY_power
    exact hy_regB hb (br_t rfl ⟨rfl, rfl⟩)
  rcases hw_reg v2 with hb | ⟨a, ha, rfl⟩
  · unfold wpX_power
    dsimp only
    refine hx_regT hd (br_f (by decide) (hx_regB hb (br_t rfl ?_)))
    unfold wpY_power
    exact hy_regT hd (br_f (by decide) (hy_regB hb (br_t rfl ⟨rfl, rfl⟩)))
  rcases hw_reg v3 with hb | ⟨e, he, rfl⟩
  · unfold wpX_power
    dsimp only
    refine hx_regT hd (br_f (by decide) (hx_regT ha (br_f (by decide) (hx_regB hb (br_t rfl ?_)))))
    unfold wpY_power
    exact hy_regT hd (br_f (by decide) (hy_regT ha (br_f (by decide) (hy_regB hb (br_t rfl ⟨rfl, rfl⟩)))))
  exact hx_power rfl hd ha he (fun H' L' P' Q' e => hy_power (V := hw_V H L) hd ha he ⟨rfl, io_rel e⟩)
theorem i_vc_divisor {k : Nat} {u : SX} {v : SY} (I : i_Rel k u v) (hk : k + 5 ≤ 2560) (v1 : Int32) (v2 : Int32) (v3 : Int32) : wpX_divisor (fun r u' => wpY_divisor (fun r' v' => r' = r ∧ i_Rel (k + 5) u' v') v v1 v2 v3) u v1 v2 v3 := by
  obtain ⟨H, L, P, Q⟩ := u
  have I' : v = hw_y (hw_V H L) := I
  subst I'
  rcases hw_reg v1 with hb | ⟨d, hd, rfl⟩
  · unfold wpX_divisor
    dsimp only
    refine hx_regB hb (br_t rfl ?_)
    unfold wpY_divisor
    exact hy_regB hb (br_t rfl ⟨rfl, rfl⟩)
  rcases hw_reg v2 with hb | ⟨a, ha, rfl⟩
  · unfold wpX_divisor
    dsimp only
    refine hx_regT hd (br_f (by decide) (hx_regB hb (br_t rfl ?_)))
    unfold wpY_divisor
    exact hy_regT hd (br_f (by decide) (hy_regB hb (br_t rfl ⟨rfl, rfl⟩)))
  rcases hw_reg v3 with hb | ⟨b, hb, rfl⟩
  · unfold wpX_divisor
    dsimp only
    refine hx_regT hd (br_f (by decide) (hx_regT ha (br_f (by decide) (hx_regB hb (br_t rfl ?_)))))
    unfold wpY_divisor
    exact hy_regT hd (br_f (by decide) (hy_regT ha (br_f (by decide) (hy_regB hb (br_t rfl ⟨rfl, rfl⟩)))))
  exact hx_divisor rfl hd ha hb (fun H' L' P' Q' e => hy_divisor (V := hw_V H L) hd ha hb ⟨rfl, io_rel e⟩)
end
