section
theorem pk_us {f : Nat → Int32} {k : Nat} {x : Int32} : upd f k x k = x := if_pos rfl
theorem pk_un {f : Nat → Int32} {k j : Nat} {x : Int32} (h : j ≠ k) : upd f k x j = f j := if_neg h
theorem pk_uLs {f : Nat → Int64} {k : Nat} {x : Int64} : vp_updL f k x k = x := if_pos rfl
theorem pk_uLn {f : Nat → Int64} {k j : Nat} {x : Int64} (h : j ≠ k) : vp_updL f k x j = f j := if_neg h
theorem pk_sub {a b : Nat} (h : b ≤ a) : nI a - nI b = nI (a - b) := by
  obtain ⟨c, rfl⟩ : ∃ c, a = c + b := ⟨a - b, by omega⟩
  rw [← nI_add, Int32.add_sub_cancel, Nat.add_sub_cancel]
theorem pk_m1 (n : Nat) : nI (n + 1) + (-1) = nI n := by
  rw [← nI_1, Int32.add_assoc, show (1 : Int32) + (-1) = 0 from rfl, Int32.add_zero]
theorem pk_mul (a b : Nat) : nI a * nI b = nI (a * b) := (Int32.ofNat_mul a b).symm
theorem pk_div {a d : Nat} (ha : a < 2 ^ 31) (h0 : 0 < d) (hd : d < 2 ^ 31) : nI a / nI d = nI (a / d) := by
  apply Int32.toInt_inj.mp
  rw [lg_idiv_nonneg (by rw [nI_toInt ha]; omega) (by rw [nI_toInt hd]; omega), nI_toInt ha, nI_toInt hd, nI_toInt (Nat.lt_of_le_of_lt (Nat.div_le_self a d) ha)]
  first | rfl | exact (Int.natCast_ediv _ _).symm
theorem pk_rem {a d : Nat} (ha : a < 2 ^ 31) (h0 : 0 < d) (hd : d < 2 ^ 31) : nI a - nI a / nI d * nI d = nI (a % d) := by
  rw [pk_div ha h0 hd, pk_mul, pk_sub (Nat.div_mul_le_self a d)]
  exact congrArg nI (by have := Nat.div_add_mod' a d; omega)
theorem pk_sub_toInt {a b : Nat} (ha : a < 2 ^ 30) (hb : b < 2 ^ 30) : (nI a - nI b).toInt = (a : Int) - b := by
  rw [Int32.toInt_sub, nI_toInt (by omega), nI_toInt (by omega)]
  exact Int.bmod_eq_of_le (by omega) (by omega)
theorem pk_sneg {a b : Nat} (hb : b < 2 ^ 30) (h : a < b) : nI a - nI b < 0 := by
  rw [Int32.lt_iff_toInt_lt, pk_sub_toInt (by omega) hb, show (0 : Int32).toInt = 0 from by decide]
  omega
theorem pk_ix (x : Int32) {n : Nat} (hn : n < 2 ^ 31) : x < 0 ∨ nI n ≤ x ∨ ∃ j : Nat, j < n ∧ x = nI j := by
  by_cases h : x < 0
  · exact Or.inl h
  · obtain ⟨j, hj, rfl⟩ := nI_of h
    by_cases h2 : j < n
    · exact Or.inr (Or.inr ⟨j, h2, rfl⟩)
    · exact Or.inr (Or.inl (nI_le (by omega) hj))
theorem pk_le {x y : Int32} {A B : Prop} (a b : Nat) (f : a ≤ b → A) (g : b < a → B) (hx : x = nI a := by rfl) (hy : y = nI b := by rfl) (ha : a < 2 ^ 31 := by omega) (hb : b < 2 ^ 31 := by omega) : (x ≤ y → A) ∧ (¬ x ≤ y → B) := by
  subst hx hy
  rw [nI_leI ha hb]
  exact ⟨f, fun z => g (by omega)⟩
theorem pk_lt {x y : Int32} {A B : Prop} (a b : Nat) (f : a < b → A) (g : b ≤ a → B) (hx : x = nI a := by rfl) (hy : y = nI b := by rfl) (ha : a < 2 ^ 31 := by omega) (hb : b < 2 ^ 31 := by omega) : (x < y → A) ∧ (¬ x < y → B) := by
  subst hx hy
  rw [nI_ltI ha hb]
  exact ⟨f, fun z => g (by omega)⟩
theorem pk_eq {x y : Int32} {A B : Prop} (a b : Nat) (f : a = b → A) (g : a ≠ b → B) (hx : x = nI a := by rfl) (hy : y = nI b := by rfl) (ha : a < 2 ^ 31 := by omega) (hb : b < 2 ^ 31 := by omega) : (x = y → A) ∧ (¬ x = y → B) := by
  subst hx hy
  rw [nI_eq ha hb]
  exact ⟨f, g⟩
theorem pk_in {x : Int32} (n N : Nat) (h : n < N) (hx : x = nI n := by rfl) (hN : N < 2 ^ 31 := by omega) : vp_in x N := by
  subst hx
  exact vp_in_nI h hN
theorem pk_cl {x : Int32} (n : Nat) (hx : x = nI n := by rfl) (h : n < 2 ^ 31 := by omega) : x.toNatClampNeg = n := by
  subst hx
  exact nI_clamp h
theorem pk_tn {n : Nat} (h : n < 2 ^ 32) : (nI n).toBitVec.toNat = n := Nat.mod_eq_of_lt h
theorem pk_and (x : Int32) {m : Int32} (k : Nat) (hm : m.toBitVec.toNat = 2 ^ k - 1) : x &&& m = nI (x.toBitVec.toNat % 2 ^ k) := by
  apply Int32.toBitVec_inj.mp
  apply BitVec.eq_of_toNat_eq
  rw [Int32.toBitVec_and, BitVec.toNat_and, hm, Nat.and_two_pow_sub_one_eq_mod]
  show _ = (BitVec.ofNat 32 _).toNat
  rw [BitVec.toNat_ofNat]
  exact (Nat.mod_eq_of_lt (Nat.lt_of_le_of_lt (Nat.mod_le _ _) x.toBitVec.isLt)).symm
theorem pk_andN {n : Nat} (h : n < 2 ^ 32) {m : Int32} (k : Nat) (hm : m.toBitVec.toNat = 2 ^ k - 1) : nI n &&& m = nI (n % 2 ^ k) := by
  rw [pk_and _ k hm, pk_tn h]
theorem pk_andE (x : Int32) {m : Int32} (k : Nat) (hm : m.toBitVec.toNat = 2 ^ k - 1) : ∃ j : Nat, j < 2 ^ k ∧ x &&& m = nI j := ⟨_, Nat.mod_lt _ (Nat.two_pow_pos k), pk_and x k hm⟩
theorem pk_andIn (x : Int32) {m : Int32} (k : Nat) (hm : m.toBitVec.toNat = 2 ^ k - 1) (hk : k ≤ 30) : vp_in (x &&& m) (2 ^ k) := by
  obtain ⟨j, hj, e⟩ := pk_andE x k hm
  rw [e]
  exact vp_in_nI hj (Nat.lt_of_le_of_lt (Nat.pow_le_pow_right (by decide) hk) (by decide))
theorem pk_shl (a s : Int32) (k : Nat) (hs : (s.toBitVec.smod 32).toNat = k) : (a <<< s).toBitVec.toNat = a.toBitVec.toNat * 2 ^ k % 2 ^ 32 := by
  show (a.toBitVec <<< (s.toBitVec.smod 32).toNat).toNat = _
  rw [hs, BitVec.toNat_shiftLeft, Nat.shiftLeft_eq]
theorem pk_shlN {n : Nat} (s : Int32) (k : Nat) (hs : (s.toBitVec.smod 32).toNat = k) (h : n * 2 ^ k < 2 ^ 32) : nI n <<< s = nI (n * 2 ^ k) := by
  apply Int32.toBitVec_inj.mp
  apply BitVec.eq_of_toNat_eq
  have hn : n < 2 ^ 32 := Nat.lt_of_le_of_lt (Nat.le_mul_of_pos_right n (Nat.two_pow_pos k)) h
  rw [pk_shl _ _ k hs, pk_tn hn, pk_tn h, Nat.mod_eq_of_lt h]
theorem pk_shr (a s : Int32) (k : Nat) (hs : (s.toBitVec.smod 32).toNat = k) : (a >>> s).toInt = a.toInt >>> k := by
  show (a.toBitVec.sshiftRight (s.toBitVec.smod 32).toNat).toInt = _
  rw [hs, BitVec.toInt_sshiftRight]
  rfl
theorem pk_shrN {n : Nat} (h : n < 2 ^ 31) (s : Int32) (k : Nat) (hs : (s.toBitVec.smod 32).toNat = k) : nI n >>> s = nI (n / 2 ^ k) := by
  apply Int32.toInt_inj.mp
  have h2 : n / 2 ^ k ≤ n := Nat.div_le_self _ _
  rw [pk_shr _ _ k hs, nI_toInt h, nI_toInt (by omega), Int.shiftRight_eq_div_pow]
  rfl
theorem pk_ushr (x s : Int32) (k : Nat) (hs : ((s.toUInt32 &&& Int32.toUInt32 31).toBitVec % 32).toNat = k) : (x.toUInt32 >>> (s.toUInt32 &&& Int32.toUInt32 31)).toInt32.toBitVec.toNat = x.toBitVec.toNat / 2 ^ k := by
  have e : (x.toUInt32 >>> (s.toUInt32 &&& Int32.toUInt32 31)).toInt32.toBitVec = x.toBitVec >>> k := by
    rw [← hs]
    exact UInt32.toBitVec_shiftRight _ _
  rw [e, BitVec.toNat_ushiftRight, Nat.shiftRight_eq_div_pow]
theorem pk_ushrN {n : Nat} (hn : n < 2 ^ 32) (s : Int32) (k : Nat) (hs : ((s.toUInt32 &&& Int32.toUInt32 31).toBitVec % 32).toNat = k) : ((nI n).toUInt32 >>> (s.toUInt32 &&& Int32.toUInt32 31)).toInt32 = nI (n / 2 ^ k) := by
  apply Int32.toBitVec_inj.mp
  apply BitVec.eq_of_toNat_eq
  rw [pk_ushr _ s k hs, pk_tn hn, pk_tn (Nat.lt_of_le_of_lt (Nat.div_le_self _ _) hn)]
/-! ===== Int32 by its bits: bt x i ===== -/
def bt (x : Int32) (i : Nat) : Bool := x.toBitVec.getLsbD i
theorem b_ext {x y : Int32} (h : ∀ i, i < 32 → bt x i = bt y i) : x = y := Int32.toBitVec_inj.mp (BitVec.eq_of_getLsbD_eq (fun i hi => h i hi))
theorem b_or (x y : Int32) (i : Nat) : bt (x ||| y) i = (bt x i || bt y i) := by unfold bt; rw [Int32.toBitVec_or, BitVec.getLsbD_or]
theorem b_and (x y : Int32) (i : Nat) : bt (x &&& y) i = (bt x i && bt y i) := by unfold bt; rw [Int32.toBitVec_and, BitVec.getLsbD_and]
theorem b_xor (x y : Int32) (i : Nat) : bt (x ^^^ y) i = (bt x i ^^ bt y i) := by unfold bt; rw [Int32.toBitVec_xor, BitVec.getLsbD_xor]
theorem b_big {x : Int32} {i : Nat} (h : 32 ≤ i) : bt x i = false := BitVec.getLsbD_of_ge _ _ h
theorem b_255 (i : Nat) : bt 255 i = decide (i < 8) := by
  rcases Nat.lt_or_ge i 32 with h | h
  · exact (by decide +kernel : ∀ i, i < 32 → bt 255 i = decide (i < 8)) i h
  · rw [b_big h, decide_eq_false (by omega)]
theorem b_65535 (i : Nat) : bt 65535 i = decide (i < 16) := by
  rcases Nat.lt_or_ge i 32 with h | h
  · exact (by decide +kernel : ∀ i, i < 32 → bt 65535 i = decide (i < 16)) i h
  · rw [b_big h, decide_eq_false (by omega)]
theorem b_m1 : ∀ i, i < 32 → bt (-1) i = true := by decide +kernel
theorem b_0 (i : Nat) : bt 0 i = false := BitVec.getLsbD_zero
theorem s_l : ∀ n, n < 32 → ((nI n &&& 31).toBitVec.smod 32).toNat = n := by decide +kernel
theorem s_u : ∀ n, n < 32 → (((nI n).toUInt32 &&& Int32.toUInt32 31).toBitVec % 32).toNat = n := by decide +kernel
theorem b_shl (n : Nat) (hn : n < 32) (x : Int32) {i : Nat} (hi : i < 32) : bt (x <<< (nI n &&& 31)) i = (decide (n ≤ i) && bt x (i - n)) := by
  unfold bt
  rw [Int32.toBitVec_shiftLeft]
  show (x.toBitVec <<< ((nI n &&& 31).toBitVec.smod 32).toNat).getLsbD i = _
  rw [s_l n hn, BitVec.getLsbD_shiftLeft]
  rcases Nat.lt_or_ge i n with h | h
  · simp [h, Nat.not_le.mpr h]
  · simp [hi, h, Nat.not_lt.mpr h]
theorem b_ushr (n : Nat) (hn : n < 32) (x : Int32) (i : Nat) : bt ((x.toUInt32 >>> ((nI n).toUInt32 &&& Int32.toUInt32 31)).toInt32) i = bt x (n + i) := by
  show (x.toUInt32 >>> ((nI n).toUInt32 &&& Int32.toUInt32 31)).toBitVec.getLsbD i = x.toUInt32.toBitVec.getLsbD (n + i)
  rw [UInt32.toBitVec_shiftRight]
  show (x.toUInt32.toBitVec >>> (((nI n).toUInt32 &&& Int32.toUInt32 31).toBitVec % 32).toNat).getLsbD i = _
  rw [s_u n hn, BitVec.getLsbD_ushiftRight]
theorem b_sshr (n : Nat) (hn : n < 32) (x : Int32) {i : Nat} (hi : i < 32) : bt (x >>> (nI n &&& 31)) i = if n + i < 32 then bt x (n + i) else bt x 31 := by
  unfold bt
  rw [Int32.toBitVec_shiftRight]
  show (x.toBitVec.sshiftRight ((nI n &&& 31).toBitVec.smod 32).toNat).getLsbD i = _
  rw [s_l n hn, BitVec.getLsbD_sshiftRight, BitVec.msb_eq_getLsbD_last]
  simp [hi]
theorem b_shl8 (x : Int32) {i : Nat} (hi : i < 32) : bt (x <<< ((8 : Int32) &&& 31)) i = (decide (8 ≤ i) && bt x (i - 8)) := b_shl 8 (by omega) x hi
theorem b_shl16 (x : Int32) {i : Nat} (hi : i < 32) : bt (x <<< ((16 : Int32) &&& 31)) i = (decide (16 ≤ i) && bt x (i - 16)) := b_shl 16 (by omega) x hi
theorem b_shl24 (x : Int32) {i : Nat} (hi : i < 32) : bt (x <<< ((24 : Int32) &&& 31)) i = (decide (24 ≤ i) && bt x (i - 24)) := b_shl 24 (by omega) x hi
theorem b_sshr8 (x : Int32) {i : Nat} (hi : i < 32) : bt (x >>> ((8 : Int32) &&& 31)) i = if 8 + i < 32 then bt x (8 + i) else bt x 31 := b_sshr 8 (by omega) x hi
/-! ===== nI under and, xor, >>>, one bit, 65535 ===== -/
theorem nx_and (a b : Nat) : nI a &&& nI b = nI (a &&& b) := by
  apply Int32.toBitVec_inj.1
  show BitVec.ofNat 32 a &&& BitVec.ofNat 32 b = BitVec.ofNat 32 (a &&& b)
  apply BitVec.eq_of_getLsbD_eq
  intro i hi
  simp [hi]
theorem nx_xor (a b : Nat) : nI a ^^^ nI b = nI (a ^^^ b) := by
  apply Int32.toBitVec_inj.1
  show BitVec.ofNat 32 a ^^^ BitVec.ofNat 32 b = BitVec.ofNat 32 (a ^^^ b)
  apply BitVec.eq_of_getLsbD_eq
  intro i hi
  simp [hi]
theorem nx_cnt : ∀ j : Fin 32, (UInt32.ofNat j.val &&& Int32.toUInt32 31).toNat % 32 = j.val := by decide +kernel
theorem nx_ush {k j : Nat} (hk : k < 65536) (hj : j < 32) : ((nI k).toUInt32 >>> ((nI j).toUInt32 &&& Int32.toUInt32 31)).toInt32 = nI (k >>> j) := by
  have hs : k >>> j ≤ k := by
    rw [Nat.shiftRight_eq_div_pow]
    exact Nat.div_le_self _ _
  have e2 : UInt32.ofNat k >>> (UInt32.ofNat j &&& Int32.toUInt32 31) = UInt32.ofNat (k >>> j) := by
    apply UInt32.toNat_inj.1
    have h1 : (UInt32.ofNat k).toNat = k := Nat.mod_eq_of_lt (by omega)
    have h2 : (UInt32.ofNat (k >>> j)).toNat = k >>> j := Nat.mod_eq_of_lt (by omega)
    rw [UInt32.toNat_shiftRight, nx_cnt ⟨j, hj⟩, h1, h2]
  show (UInt32.ofNat k >>> (UInt32.ofNat j &&& Int32.toUInt32 31)).toInt32 = _
  rw [e2]
  rfl
theorem nx_bit {k j : Nat} (hk : k < 65536) (hj : j < 16) : (((nI k).toUInt32 >>> ((nI j).toUInt32 &&& Int32.toUInt32 31)).toInt32 &&& 1) = 0 ↔ k.testBit j = false := by
  rw [nx_ush hk (by omega)]
  show nI (k >>> j) &&& nI 1 = 0 ↔ _
  rw [nx_and, Nat.and_one_is_mod, ← nI_0, nI_eq (by omega) (by omega), Nat.testBit_eq_decide_div_mod_eq, Nat.shiftRight_eq_div_pow, decide_eq_false_iff_not]
  generalize k / 2 ^ j = z
  omega
theorem nx_mod (k : Nat) : nI k &&& 65535 = nI (k % 65536) := by
  show nI k &&& nI 65535 = _
  rw [nx_and, show (65535 : Nat) = 2 ^ 16 - 1 from rfl, Nat.and_two_pow_sub_one_eq_mod]
theorem nx_m16 {k : Nat} (h : k < 65536) : nI k &&& 65535 = nI k := by rw [nx_mod, Nat.mod_eq_of_lt h]
theorem nx_mask (x : Int32) : ∃ k, k < 65536 ∧ x &&& 65535 = nI k := by
  have e : x = nI x.toBitVec.toNat := by
    apply Int32.toBitVec_inj.1
    show x.toBitVec = BitVec.ofNat 32 x.toBitVec.toNat
    simp
  refine ⟨x.toBitVec.toNat % 65536, Nat.mod_lt _ (by omega), ?_⟩
  rw [← nx_mod, ← e]
/-! ===== lN n to 2^64: shifts, and, or, masks, one bit ===== -/
theorem wb_tb (n : Nat) : (lN n).toBitVec = BitVec.ofNat 64 n := rfl
theorem wb_inj {a b : Int64} (h : a.toBitVec = b.toBitVec) : a = b := Int64.toBitVec_inj.mp h
theorem wb_tn {n : Nat} (h : n < 2 ^ 64) : (lN n).toBitVec.toNat = n := by rw [wb_tb, BitVec.toNat_ofNat, Nat.mod_eq_of_lt h]
theorem wb_of (x : Int64) : ∃ n, n < 2 ^ 64 ∧ x = lN n := ⟨x.toBitVec.toNat, x.toBitVec.isLt, wb_inj (by rw [wb_tb]; simp)⟩
theorem wb_of32 (x : Int32) : ∃ n, n < 2 ^ 32 ∧ x = nI n := ⟨x.toBitVec.toNat, x.toBitVec.isLt, Int32.toBitVec_inj.mp (by show _ = BitVec.ofNat 32 _; simp)⟩
theorem wb_c : ∀ k, k < 64 → ((nI k).toInt64 &&& 63) = lN k := by decide +kernel
theorem wb_cu : ∀ k, k < 64 → ((nI k).toInt64.toUInt64 &&& Int64.toUInt64 63) = UInt64.ofNat k := by decide +kernel
theorem wb_sm : ∀ k, k < 64 → (BitVec.ofNat 64 k).smod 64 = BitVec.ofNat 64 k := by decide +kernel
theorem wb_pw {a b : Nat} (h : a ≤ b) : 2 ^ b = 2 ^ a * 2 ^ (b - a) := by rw [← Nat.pow_add]; congr 1; omega
theorem wb_lt2 {a b : Nat} (h : a < b) : 2 ^ a < 2 ^ b := Nat.pow_lt_pow_right (by decide) h
theorem wb_mod (n : Nat) : lN n = lN (n % 2 ^ 64) := wb_inj (by rw [wb_tb, wb_tb]; apply BitVec.eq_of_toNat_eq; rw [BitVec.toNat_ofNat, BitVec.toNat_ofNat, Nat.mod_mod])
theorem wb_shr {n k : Nat} (hn : n < 2 ^ 64) (hk : k < 64) : ((lN n).toUInt64 >>> ((nI k).toInt64.toUInt64 &&& Int64.toUInt64 63)).toInt64 = lN (n / 2 ^ k) := by
  rw [wb_cu k hk]
  apply wb_inj
  apply BitVec.eq_of_toNat_eq
  show ((lN n).toUInt64 >>> UInt64.ofNat k).toNat = (BitVec.ofNat 64 _).toNat
  have h1 : (UInt64.ofNat k).toNat = k := by
    show (BitVec.ofNat 64 k).toNat = k
    rw [BitVec.toNat_ofNat, Nat.mod_eq_of_lt (by omega)]
  have h2 : (lN n).toUInt64.toNat = n := wb_tn hn
  rw [UInt64.toNat_shiftRight, h1, h2, Nat.mod_eq_of_lt hk, Nat.shiftRight_eq_div_pow, BitVec.toNat_ofNat, Nat.mod_eq_of_lt (Nat.lt_of_le_of_lt (Nat.div_le_self _ _) hn)]
theorem wb_shl (n : Nat) {k : Nat} (hk : k < 64) : lN n <<< ((nI k).toInt64 &&& 63) = lN (n * 2 ^ k) := by
  rw [wb_c k hk]
  apply wb_inj
  rw [Int64.toBitVec_shiftLeft, wb_tb, wb_tb, wb_tb, wb_sm k hk]
  apply BitVec.eq_of_toNat_eq
  rw [BitVec.shiftLeft_eq', BitVec.toNat_shiftLeft, BitVec.toNat_ofNat, BitVec.toNat_ofNat, BitVec.toNat_ofNat, Nat.mod_eq_of_lt (show k < 2 ^ 64 by omega), Nat.shiftLeft_eq, Nat.mul_mod, Nat.mod_mod, ← Nat.mul_mod]
theorem wb_and {a b : Nat} (ha : a < 2 ^ 64) (hb : b < 2 ^ 64) : lN a &&& lN b = lN (a &&& b) := by
  apply wb_inj
  rw [Int64.toBitVec_and, wb_tb, wb_tb, wb_tb]
  apply BitVec.eq_of_toNat_eq
  rw [BitVec.toNat_and, BitVec.toNat_ofNat, BitVec.toNat_ofNat, BitVec.toNat_ofNat, Nat.mod_eq_of_lt ha, Nat.mod_eq_of_lt hb, Nat.mod_eq_of_lt (Nat.and_lt_two_pow _ hb)]
theorem wb_or {a b : Nat} (ha : a < 2 ^ 64) (hb : b < 2 ^ 64) : lN a ||| lN b = lN (a ||| b) := by
  apply wb_inj
  rw [Int64.toBitVec_or, wb_tb, wb_tb, wb_tb]
  apply BitVec.eq_of_toNat_eq
  rw [BitVec.toNat_or, BitVec.toNat_ofNat, BitVec.toNat_ofNat, BitVec.toNat_ofNat, Nat.mod_eq_of_lt ha, Nat.mod_eq_of_lt hb, Nat.mod_eq_of_lt (Nat.or_lt_two_pow ha hb)]
theorem wb_mask {n k : Nat} (hn : n < 2 ^ 64) (hk : k < 64) : lN n &&& lN (2 ^ k - 1) = lN (n % 2 ^ k) := by
  rw [wb_and hn (by have := wb_lt2 hk; omega), Nat.and_two_pow_sub_one_eq_mod]
theorem wb_a1 {n : Nat} (hn : n < 2 ^ 64) : lN n &&& 1 = lN (n % 2) := wb_mask (k := 1) hn (by decide)
theorem wb_bit {n k : Nat} (hn : n < 2 ^ 64) (hk : k < 64) : ((lN n).toUInt64 >>> ((nI k).toInt64.toUInt64 &&& Int64.toUInt64 63)).toInt64 &&& 1 = lN (n / 2 ^ k % 2) := by
  rw [wb_shr hn hk, wb_a1 (Nat.lt_of_le_of_lt (Nat.div_le_self _ _) hn)]
end
section
/-! ===== bits of longs ===== -/
def zl_b (x : Int64) (i : Nat) : Bool := x.toBitVec.getLsbD i
theorem zl_ext {x y : Int64} (h : ∀ i, i < 64 → zl_b x i = zl_b y i) : x = y := Int64.toBitVec_inj.mp (BitVec.eq_of_getLsbD_eq (fun i hi => h i hi))
theorem zl_or (x y : Int64) (i : Nat) : zl_b (x ||| y) i = (zl_b x i || zl_b y i) := by unfold zl_b; rw [Int64.toBitVec_or, BitVec.getLsbD_or]
theorem zl_and (x y : Int64) (i : Nat) : zl_b (x &&& y) i = (zl_b x i && zl_b y i) := by unfold zl_b; rw [Int64.toBitVec_and, BitVec.getLsbD_and]
theorem zl_xor (x y : Int64) (i : Nat) : zl_b (x ^^^ y) i = (zl_b x i ^^ zl_b y i) := by unfold zl_b; rw [Int64.toBitVec_xor, BitVec.getLsbD_xor]
theorem zl_0 (i : Nat) : zl_b 0 i = false := BitVec.getLsbD_zero
theorem zl_m1 : ∀ i, i < 64 → zl_b (-1) i = true := by decide +kernel
theorem zl_big {x : Int64} {i : Nat} (h : 64 ≤ i) : zl_b x i = false := BitVec.getLsbD_of_ge _ _ h
theorem zl_not (x : Int64) {i : Nat} (h : i < 64) : zl_b (x ^^^ (-1)) i = !zl_b x i := by
  rw [zl_xor, zl_m1 i h, Bool.xor_true]
theorem zl_ne {x : Int64} : ¬ x = 0 ↔ ∃ i, i < 64 ∧ zl_b x i = true := by
  constructor
  · intro h
    apply Classical.byContradiction
    intro hn
    apply h
    apply zl_ext
    intro i hi
    rw [zl_0]
    cases e : zl_b x i
    · rfl
    · exact absurd ⟨i, hi, e⟩ hn
  · rintro ⟨i, _, hb⟩ e
    rw [e, zl_0] at hb
    cases hb
/-- bit b of a number -/
def zp_t (t b : Nat) : Bool := decide (t / 2 ^ b % 2 = 1)
theorem zp_tb (t b : Nat) : t.testBit b = zp_t t b := Nat.testBit_eq_decide_div_mod_eq
theorem zl_lN {n : Nat} (h : n < 2 ^ 64) (i : Nat) : zl_b (lN n) i = zp_t n i := by
  unfold zl_b
  rw [← zp_tb, ← BitVec.testBit_toNat, wb_tn h]
theorem zl_tn (x : Int64) (i : Nat) : zl_b x i = zp_t x.toBitVec.toNat i := by
  unfold zl_b
  rw [← zp_tb, ← BitVec.testBit_toNat]
theorem zl_bt (x : Int32) (i : Nat) : bt x i = zp_t x.toBitVec.toNat i := by
  unfold bt
  rw [← zp_tb, ← BitVec.testBit_toNat]
theorem zl_one : ∀ k, k < 64 → ∀ i, i < 64 → zl_b ((1 : Int64) <<< ((nI k).toInt64 &&& 63)) i = decide (i = k) := by decide +kernel
theorem zl_nul : ∀ k, k < 64 → ((0 : Int64) <<< ((nI k).toInt64 &&& 63)) = 0 := by decide +kernel
theorem zl_ushr (x : Int64) {k : Nat} (hk : k < 64) (i : Nat) : zl_b ((x.toUInt64 >>> ((nI k).toInt64.toUInt64 &&& Int64.toUInt64 63)).toInt64) i = zl_b x (k + i) := by
  obtain ⟨n, hn, rfl⟩ := wb_of x
  rw [wb_shr hn hk, zl_lN hn, zl_lN (Nat.lt_of_le_of_lt (Nat.div_le_self _ _) hn)]
  unfold zp_t
  rw [Nat.div_div_eq_div_mul, ← Nat.pow_add]
theorem zl_msk : ∀ w, w < 64 → ∀ i, i < 64 → zl_b (((1 : Int64) <<< ((nI w).toInt64 &&& 63)) - 1) i = decide (i < w) := by decide +kernel
/-- the int of a truth value -/
def zb_i (b : Bool) : Int32 := if b = true then 1 else 0
theorem zb_t : zb_i true = 1 := rfl
theorem zb_f : zb_i false = 0 := rfl
theorem zb_n (b : Bool) : vp_nar .boolean (zb_i b) = zb_i b := by cases b <;> rfl
theorem zb_0 (b : Bool) : zb_i b = 0 ↔ b = false := by cases b <;> decide
theorem zb_N (b : Bool) : zb_i b = nI b.toNat := by cases b <;> decide
/-- one digit of an int, as an int -/
theorem zl_dig (v : Int32) {b : Nat} (hb : b < 32) : ((v.toUInt32 >>> ((nI b).toUInt32 &&& Int32.toUInt32 31)).toInt32 &&& 1) = zb_i (bt v b) := by
  apply b_ext
  intro i hi
  rw [b_and, b_ushr b hb]
  have h1 : ∀ i, i < 32 → bt 1 i = decide (i = 0) := by decide +kernel
  rw [h1 i hi]
  cases i with
  | zero =>
    rw [Nat.add_zero]
    cases bt v b <;> decide
  | succ i =>
    have h2 : ∀ i, i < 32 → 0 < i → bt 1 i = false := by decide +kernel
    cases bt v b
    · simp [zb_i, b_0]
    · simp [zb_i, h2 (i + 1) hi]
theorem zl_digL (b : Bool) {k i : Nat} (hk : k < 64) (hi : i < 64) : zl_b ((zb_i b).toInt64 <<< ((nI k).toInt64 &&& 63)) i = (decide (i = k) && b) := by
  cases b
  · show zl_b ((0 : Int64) <<< ((nI k).toInt64 &&& 63)) i = _
    rw [zl_nul k hk, zl_0, Bool.and_false]
  · show zl_b ((1 : Int64) <<< ((nI k).toInt64 &&& 63)) i = _
    rw [zl_one k hk i hi, Bool.and_true]
theorem zl_digD (x : Int64) {k : Nat} (hk : k < 64) : (((x.toUInt64 >>> ((nI k).toInt64.toUInt64 &&& Int64.toUInt64 63)).toInt64).toInt32 &&& 1) = zb_i (zl_b x k) := by
  obtain ⟨n, hn, rfl⟩ := wb_of x
  rw [wb_shr hn hk, lN_i, zl_lN hn]
  show nI (n / 2 ^ k) &&& nI 1 = _
  rw [nx_and, Nat.and_one_is_mod]
  unfold zp_t
  rcases Nat.mod_two_eq_zero_or_one (n / 2 ^ k) with h | h
  · rw [h]; decide
  · rw [h]; decide
end
section
/-! ===== counts and sums ===== -/
def zc_ct (f : Nat → Bool) : Nat → Nat
  | 0 => 0
  | n + 1 => zc_ct f n + (f n).toNat
theorem zc_s (f : Nat → Bool) (n : Nat) : zc_ct f (n + 1) = zc_ct f n + (f n).toNat := rfl
theorem zc_cg {f g : Nat → Bool} : ∀ {n : Nat}, (∀ i, i < n → f i = g i) → zc_ct f n = zc_ct g n
  | 0, _ => rfl
  | n + 1, h => by rw [zc_s, zc_s, zc_cg (n := n) (fun i hi => h i (by omega)), h n (by omega)]
theorem zc_le (f : Nat → Bool) : ∀ n, zc_ct f n ≤ n
  | 0 => Nat.le_refl _
  | n + 1 => by
    have := zc_le f n
    have := Bool.toNat_le (f n)
    rw [zc_s]; omega
theorem zc_mono (f : Nat → Bool) {a : Nat} : ∀ {b : Nat}, a ≤ b → zc_ct f a ≤ zc_ct f b
  | 0, h => by rw [Nat.le_zero.mp h]; exact Nat.le_refl _
  | b + 1, h => by
    rcases Nat.lt_or_ge b a with h1 | h1
    · rw [show a = b + 1 by omega]; exact Nat.le_refl _
    · exact Nat.le_trans (zc_mono f h1) (Nat.le_add_right _ _)
theorem zc_add (f : Nat → Bool) (a : Nat) : ∀ b, zc_ct f (a + b) = zc_ct f a + zc_ct (fun i => f (a + i)) b
  | 0 => rfl
  | b + 1 => by
    show zc_ct f (a + b + 1) = _
    rw [zc_s, zc_s, zc_add f a b]
    omega
theorem zc_dbl (f : Nat → Bool) : ∀ n, zc_ct f (2 * n) = zc_ct (fun i => f (2 * i)) n + zc_ct (fun i => f (2 * i + 1)) n
  | 0 => rfl
  | n + 1 => by
    show zc_ct f (2 * n + 1 + 1) = _
    rw [zc_s, zc_s, zc_s, zc_s, zc_dbl f n]
    omega
theorem zc_split (f g : Nat → Bool) : ∀ n, zc_ct f n = zc_ct (fun i => f i && g i) n + zc_ct (fun i => f i && !g i) n
  | 0 => rfl
  | n + 1 => by
    rw [zc_s, zc_s, zc_s, zc_split f g n]
    cases f n <;> cases g n <;> simp <;> omega
theorem zc_nil {f : Nat → Bool} : ∀ {n : Nat}, (∀ i, i < n → f i = false) → zc_ct f n = 0
  | 0, _ => rfl
  | n + 1, h => by rw [zc_s, zc_nil (n := n) (fun i hi => h i (by omega)), h n (by omega)]; rfl
theorem zc_pos {f : Nat → Bool} {n i : Nat} (hi : i < n) (h : f i = true) : 0 < zc_ct f n := by
  have a := zc_mono f (show i + 1 ≤ n by omega)
  rw [zc_s, h] at a
  have : (true).toNat = 1 := rfl
  omega
theorem zc_ex {f : Nat → Bool} : ∀ {n : Nat}, 0 < zc_ct f n → ∃ i, i < n ∧ f i = true
  | 0, h => absurd h (Nat.lt_irrefl _)
  | n + 1, h => by
    cases e : f n
    · rw [zc_s, e] at h
      obtain ⟨i, hi, hf⟩ := zc_ex (f := f) (n := n) h
      exact ⟨i, by omega, hf⟩
    · exact ⟨n, by omega, e⟩
theorem zc_iff {f : Nat → Bool} {n : Nat} : 0 < zc_ct f n ↔ ∃ i, i < n ∧ f i = true :=
  ⟨zc_ex, fun ⟨_, hi, h⟩ => zc_pos hi h⟩
theorem zc_cut (f : Nat → Bool) {w n : Nat} (h : w ≤ n) : zc_ct (fun i => f i && decide (i < w)) n = zc_ct f w := by
  obtain ⟨d, rfl⟩ : ∃ d, n = w + d := ⟨n - w, by omega⟩
  rw [zc_add, zc_nil (n := d) (fun i _ => by rw [decide_eq_false (by omega), Bool.and_false]), Nat.add_zero]
  exact zc_cg (fun i hi => by rw [decide_eq_true hi, Bool.and_true])
/-- sums -/
def zs_sm (f : Nat → Nat) : Nat → Nat
  | 0 => 0
  | n + 1 => zs_sm f n + f n
theorem zs_s (f : Nat → Nat) (n : Nat) : zs_sm f (n + 1) = zs_sm f n + f n := rfl
theorem zs_cg {f g : Nat → Nat} : ∀ {n : Nat}, (∀ i, i < n → f i = g i) → zs_sm f n = zs_sm g n
  | 0, _ => rfl
  | n + 1, h => by rw [zs_s, zs_s, zs_cg (n := n) (fun i hi => h i (by omega)), h n (by omega)]
theorem zs_pair (f : Nat → Nat) : ∀ n, zs_sm f (2 * n) = zs_sm (fun i => f (2 * i) + f (2 * i + 1)) n
  | 0 => rfl
  | n + 1 => by
    show zs_sm f (2 * n + 1 + 1) = _
    rw [zs_s, zs_s, zs_s, zs_pair f n]
    omega
theorem zs_ct (f : Nat → Bool) : ∀ n, zs_sm (fun i => (f i).toNat) n = zc_ct f n
  | 0 => rfl
  | n + 1 => by rw [zs_s, zc_s, zs_ct f n]
theorem zs_mono (f : Nat → Nat) {a : Nat} : ∀ {b : Nat}, a ≤ b → zs_sm f a ≤ zs_sm f b
  | 0, h => by rw [Nat.le_zero.mp h]; exact Nat.le_refl _
  | b + 1, h => by
    rcases Nat.lt_or_ge b a with h1 | h1
    · rw [show a = b + 1 by omega]; exact Nat.le_refl _
    · exact Nat.le_trans (zs_mono f h1) (Nat.le_add_right _ _)
theorem zs_lo {f : Nat → Nat} : ∀ {n : Nat}, (∀ i, i < n → 0 < f i) → n ≤ zs_sm f n
  | 0, _ => Nat.le_refl _
  | n + 1, h => by
    have a := zs_lo (n := n) (fun i hi => h i (by omega))
    have b := h n (by omega)
    rw [zs_s]; omega
theorem zs_one {f : Nat → Nat} : ∀ {n : Nat}, (∀ i, i < n → f i = 1) → zs_sm f n = n
  | 0, _ => rfl
  | n + 1, h => by rw [zs_s, zs_one (n := n) (fun i hi => h i (by omega)), h n (by omega)]
end
section
/-! ===== the ones of a long: digits to base B, the lowest first ===== -/
def zo_E (B : Nat) : Nat → (Nat → Nat) → Nat
  | 0, _ => 0
  | k + 1, f => f 0 + B * zo_E B k (fun i => f (i + 1))
theorem zo_s (B k : Nat) (f : Nat → Nat) : zo_E B (k + 1) f = f 0 + B * zo_E B k (fun i => f (i + 1)) := rfl
theorem zo_cg (B : Nat) : ∀ (k : Nat) {f g : Nat → Nat}, (∀ i, i < k → f i = g i) → zo_E B k f = zo_E B k g
  | 0, _, _, _ => rfl
  | k + 1, f, g, h => by
    rw [zo_s, zo_s, h 0 (by omega), zo_cg B k (f := fun i => f (i + 1)) (g := fun i => g (i + 1)) (fun i hi => h (i + 1) (by omega))]
theorem zo_add (B : Nat) : ∀ (k : Nat) (f g : Nat → Nat), zo_E B k f + zo_E B k g = zo_E B k (fun i => f i + g i)
  | 0, _, _ => rfl
  | k + 1, f, g => by
    rw [zo_s, zo_s, zo_s, ← zo_add B k, Nat.mul_add]
    omega
theorem zo_pair (B : Nat) : ∀ (k : Nat) (f : Nat → Nat), zo_E B (2 * k) f = zo_E (B * B) k (fun i => f (2 * i) + B * f (2 * i + 1))
  | 0, _ => rfl
  | k + 1, f => by
    show zo_E B (2 * k + 1 + 1) f = _
    rw [zo_s, zo_s, zo_s, zo_pair B k, Nat.mul_add, Nat.mul_assoc, Nat.add_assoc]
    rfl
theorem zo_lt {B : Nat} : ∀ (k : Nat) {f : Nat → Nat}, (∀ i, f i < B) → zo_E B k f < B ^ k
  | 0, _, _ => Nat.one_pos
  | k + 1, f, h => by
    have a := zo_lt k (f := fun i => f (i + 1)) (fun i => h (i + 1))
    have b := h 0
    rw [zo_s, Nat.pow_succ, Nat.mul_comm _ B]
    have c : B * (zo_E B k (fun i => f (i + 1)) + 1) ≤ B * B ^ k := Nat.mul_le_mul_left B a
    rw [Nat.mul_add, Nat.mul_one] at c
    omega
theorem zo_snoc (B : Nat) : ∀ (k : Nat) {f : Nat → Nat}, f k = 0 → zo_E B (k + 1) f = zo_E B k f
  | 0, f, h => by rw [zo_s, h]; rfl
  | k + 1, f, h => by
    rw [zo_s B (k + 1), zo_snoc B k (f := fun i => f (i + 1)) h, zo_s B k]
theorem zo_div {B k : Nat} {f : Nat → Nat} (h0 : f 0 < B) (hk : f k = 0) : zo_E B k f / B = zo_E B k (fun i => f (i + 1)) := by
  rw [← zo_snoc B k hk, zo_s, Nat.add_mul_div_left _ _ (by omega), Nat.div_eq_of_lt h0, Nat.zero_add]
theorem zo_rep {B : Nat} (hB : 0 < B) : ∀ (k n : Nat), n < B ^ k → zo_E B k (fun i => n / B ^ i % B) = n
  | 0, n, h => by
    have : n = 0 := by simpa using h
    rw [this]; rfl
  | k + 1, n, h => by
    have e : (fun i => n / B ^ (i + 1) % B) = (fun i => n / B / B ^ i % B) := by
      funext i
      rw [Nat.div_div_eq_div_mul, Nat.pow_succ, Nat.mul_comm]
    have a : n / B < B ^ k := by
      rw [Nat.div_lt_iff_lt_mul hB]
      rw [Nat.pow_succ] at h
      exact h
    rw [zo_s]
    show n / B ^ 0 % B + B * zo_E B k (fun i => n / B ^ (i + 1) % B) = n
    rw [e, zo_rep hB k (n / B) a, Nat.pow_zero, Nat.div_one]
    exact Nat.mod_add_div n B
theorem zo_and2 {s a c x y : Nat} (ha : a < 2 ^ s) (hc : c < 2 ^ s) : (a + 2 ^ s * x) &&& (c + 2 ^ s * y) = (a &&& c) + 2 ^ s * (x &&& y) := by
  have h0 : 0 < 2 ^ s := Nat.two_pow_pos s
  rw [← Nat.mod_add_div ((a + 2 ^ s * x) &&& (c + 2 ^ s * y)) (2 ^ s), Nat.and_mod_two_pow, Nat.and_div_two_pow,
    Nat.add_mul_mod_self_left, Nat.add_mul_mod_self_left, Nat.mod_eq_of_lt ha, Nat.mod_eq_of_lt hc,
    Nat.add_mul_div_left _ _ h0, Nat.add_mul_div_left _ _ h0, Nat.div_eq_of_lt ha, Nat.div_eq_of_lt hc, Nat.zero_add, Nat.zero_add]
theorem zo_and (s : Nat) : ∀ (k : Nat) {f g : Nat → Nat}, (∀ i, f i < 2 ^ s) → (∀ i, g i < 2 ^ s) → zo_E (2 ^ s) k f &&& zo_E (2 ^ s) k g = zo_E (2 ^ s) k (fun i => f i &&& g i)
  | 0, _, _, _, _ => by simp only [zo_E, Nat.and_self]
  | k + 1, f, g, hf, hg => by
    rw [zo_s, zo_s, zo_s, zo_and2 (hf 0) (hg 0), zo_and s k (f := fun i => f (i + 1)) (g := fun i => g (i + 1)) (fun i => hf (i + 1)) (fun i => hg (i + 1))]
theorem zo_andB {B : Nat} (s : Nat) (hB : B = 2 ^ s) (k : Nat) {f g : Nat → Nat} (hf : ∀ i, f i < B) (hg : ∀ i, g i < B) : zo_E B k f &&& zo_E B k g = zo_E B k (fun i => f i &&& g i) := by
  subst hB
  exact zo_and s k hf hg
theorem zo_k5 : zo_E 4 32 (fun _ => 1) = 6148914691236517205 := by decide +kernel
theorem zo_k3 : zo_E 16 16 (fun _ => 3) = 3689348814741910323 := by decide +kernel
theorem zo_kF : zo_E 256 8 (fun _ => 15) = 1085102592571150095 := by decide +kernel
theorem zo_top (a b c d e f g h : Nat) (ha : a ≤ 8) (hb : b ≤ 8) (hc : c ≤ 8) (hd : d ≤ 8) (he : e ≤ 8) (hf : f ≤ 8) (hg : g ≤ 8) (hh : h ≤ 8) :
    (a + 256 * (b + 256 * (c + 256 * (d + 256 * (e + 256 * (f + 256 * (g + 256 * (h + 256 * 0)))))))) * 72340172838076673 % 18446744073709551616 / 72057594037927936 = a + b + c + d + e + f + g + h := by
  have e1 : (a + 256 * (b + 256 * (c + 256 * (d + 256 * (e + 256 * (f + 256 * (g + 256 * (h + 256 * 0)))))))) * 72340172838076673
      = 18446744073709551616 * ((b + c + d + e + f + g + h) + 256 * ((c + d + e + f + g + h) + 256 * ((d + e + f + g + h) + 256 * ((e + f + g + h) + 256 * ((f + g + h) + 256 * ((g + h) + 256 * h))))))
      + (72057594037927936 * (a + b + c + d + e + f + g + h)
      + (a + 256 * ((a + b) + 256 * ((a + b + c) + 256 * ((a + b + c + d) + 256 * ((a + b + c + d + e) + 256 * ((a + b + c + d + e + f) + 256 * (a + b + c + d + e + f + g)))))))) := by omega
  have e2 : (a + 256 * ((a + b) + 256 * ((a + b + c) + 256 * ((a + b + c + d) + 256 * ((a + b + c + d + e) + 256 * ((a + b + c + d + e + f) + 256 * (a + b + c + d + e + f + g))))))) < 72057594037927936 := by omega
  have e3 : a + b + c + d + e + f + g + h ≤ 64 := by omega
  rw [e1]
  generalize (a + 256 * ((a + b) + 256 * ((a + b + c) + 256 * ((a + b + c + d) + 256 * ((a + b + c + d + e) + 256 * ((a + b + c + d + e + f) + 256 * (a + b + c + d + e + f + g))))))) = L at e2 ⊢
  generalize ((b + c + d + e + f + g + h) + 256 * ((c + d + e + f + g + h) + 256 * ((d + e + f + g + h) + 256 * ((e + f + g + h) + 256 * ((f + g + h) + 256 * ((g + h) + 256 * h)))))) = H
  generalize a + b + c + d + e + f + g + h = S at e3 ⊢
  rw [Nat.mul_add_mod, Nat.mod_eq_of_lt (by omega), Nat.mul_add_div (by omega), Nat.div_eq_of_lt e2, Nat.add_zero]
theorem zo_a1 {x y : Nat} (hx : x < 2) : (x + 2 * y) &&& 1 = x := by
  rw [Nat.and_one_is_mod]; omega
theorem zo_a3 {x y : Nat} (hx : x < 4) : (x + 4 * y) &&& 3 = x := by
  have e := Nat.and_two_pow_sub_one_eq_mod (x + 4 * y) 2
  rw [show (2 ^ 2 - 1 : Nat) = 3 from rfl, show (2 ^ 2 : Nat) = 4 from rfl] at e
  rw [e]; omega
theorem zo_aF {x y : Nat} (hx : x < 16) : (x + 16 * y) &&& 15 = x := by
  have e := Nat.and_two_pow_sub_one_eq_mod (x + 16 * y) 4
  rw [show (2 ^ 4 - 1 : Nat) = 15 from rfl, show (2 ^ 4 : Nat) = 16 from rfl] at e
  rw [e]; omega
/-- the four steps over naturals, by the digits -/
theorem zo_1 {d : Nat → Nat} (hd : ∀ i, d i < 2) (h0 : ∀ i, 64 ≤ i → d i = 0) :
    (zo_E 2 64 d / 2) &&& 6148914691236517205 = zo_E 4 32 (fun i => d (2 * i + 1)) := by
  have hp : zo_E 2 64 (fun i => d (i + 1)) = zo_E 4 32 (fun i => d (2 * i + 1) + 2 * d (2 * i + 1 + 1)) := zo_pair 2 32 _
  rw [zo_div (hd 0) (h0 64 (by omega)), hp, ← zo_k5, zo_andB 2 rfl 32 (fun i => ?_) (fun _ => by decide)]
  · exact zo_cg _ _ (fun i _ => zo_a1 (hd _))
  · have := hd (2 * i + 1)
    have := hd (2 * i + 1 + 1)
    omega
theorem zo_1e {d : Nat → Nat} : zo_E 2 64 d = zo_E 4 32 (fun i => d (2 * i) + d (2 * i + 1)) + zo_E 4 32 (fun i => d (2 * i + 1)) := by
  have hp : zo_E 2 64 d = zo_E 4 32 (fun i => d (2 * i) + 2 * d (2 * i + 1)) := zo_pair 2 32 _
  rw [hp, zo_add]
  refine zo_cg _ _ (fun i _ => ?_)
  omega
theorem zo_2a {c : Nat → Nat} (hc : ∀ i, c i < 4) : zo_E 4 32 c &&& 3689348814741910323 = zo_E 16 16 (fun i => c (2 * i)) := by
  have hp : zo_E 4 32 c = zo_E 16 16 (fun i => c (2 * i) + 4 * c (2 * i + 1)) := zo_pair 4 16 _
  rw [hp, ← zo_k3, zo_andB 4 rfl 16 (fun i => ?_) (fun _ => by decide)]
  · exact zo_cg _ _ (fun i _ => zo_a3 (hc _))
  · have := hc (2 * i)
    have := hc (2 * i + 1)
    omega
theorem zo_2 {c : Nat → Nat} (hc : ∀ i, c i < 4) (h0 : ∀ i, 32 ≤ i → c i = 0) :
    (zo_E 4 32 c &&& 3689348814741910323) + ((zo_E 4 32 c / 4) &&& 3689348814741910323) = zo_E 16 16 (fun i => c (2 * i) + c (2 * i + 1)) := by
  rw [zo_div (hc 0) (h0 32 (by omega)), zo_2a hc, zo_2a (c := fun i => c (i + 1)) (fun i => hc (i + 1)), zo_add]
theorem zo_3 {e : Nat → Nat} (he : ∀ i, e i ≤ 4) (h0 : ∀ i, 16 ≤ i → e i = 0) :
    (zo_E 16 16 e + zo_E 16 16 e / 16) &&& 1085102592571150095 = zo_E 256 8 (fun i => e (2 * i) + e (2 * i + 1)) := by
  have hp : zo_E 16 16 (fun i => e i + e (i + 1)) = zo_E 256 8 (fun i => (e (2 * i) + e (2 * i + 1)) + 16 * (e (2 * i + 1) + e (2 * i + 1 + 1))) := zo_pair 16 8 _
  rw [zo_div (by have := he 0; omega) (h0 16 (by omega)), zo_add, hp, ← zo_kF, zo_andB 8 rfl 8 (fun i => ?_) (fun _ => by decide)]
  · refine zo_cg _ _ (fun i _ => zo_aF ?_)
    have := he (2 * i)
    have := he (2 * i + 1)
    omega
  · have := he (2 * i)
    have := he (2 * i + 1)
    have := he (2 * i + 1 + 1)
    omega
theorem zo_4 {g : Nat → Nat} (hg : ∀ i, g i ≤ 8) : zo_E 256 8 g * 72340172838076673 % 18446744073709551616 / 72057594037927936 = zs_sm g 8 := by
  have e : zs_sm g 8 = g 0 + g 1 + g 2 + g 3 + g 4 + g 5 + g 6 + g 7 := by simp only [zs_sm]; omega
  rw [e]
  exact zo_top (g 0) (g 1) (g 2) (g 3) (g 4) (g 5) (g 6) (g 7) (hg 0) (hg 1) (hg 2) (hg 3) (hg 4) (hg 5) (hg 6) (hg 7)
theorem zo_w1 {n h c : Nat} (hn : n < 2 ^ 64) (hh : (n / 2) &&& 6148914691236517205 = h) (hc : n = c + h) :
    lN n - (((lN n).toUInt64 >>> ((1 : Int32).toInt64.toUInt64 &&& Int64.toUInt64 63)).toInt64 &&& 6148914691236517205) = lN c := by
  have e1 : ((lN n).toUInt64 >>> ((1 : Int32).toInt64.toUInt64 &&& Int64.toUInt64 63)).toInt64 = lN (n / 2) := wb_shr (k := 1) hn (by decide)
  have e2 : lN (n / 2) &&& (6148914691236517205 : Int64) = lN (n / 2 &&& 6148914691236517205) := wb_and (by omega) (by decide)
  have e3 : n - h = c := by omega
  rw [e1, e2, hh, lN_sub (by omega), e3]
theorem zo_w2 {x y : Nat} (hx : x < 2 ^ 64) (h : (x &&& 3689348814741910323) + ((x / 4) &&& 3689348814741910323) = y) :
    (lN x &&& 3689348814741910323) + (((lN x).toUInt64 >>> ((2 : Int32).toInt64.toUInt64 &&& Int64.toUInt64 63)).toInt64 &&& 3689348814741910323) = lN y := by
  have e1 : ((lN x).toUInt64 >>> ((2 : Int32).toInt64.toUInt64 &&& Int64.toUInt64 63)).toInt64 = lN (x / 4) := wb_shr (k := 2) hx (by decide)
  have e2 : lN (x / 4) &&& (3689348814741910323 : Int64) = lN (x / 4 &&& 3689348814741910323) := wb_and (by omega) (by decide)
  have e3 : lN x &&& (3689348814741910323 : Int64) = lN (x &&& 3689348814741910323) := wb_and hx (by decide)
  rw [e1, e2, e3, lN_add, h]
theorem zo_w3 {x y : Nat} (hx : x < 2 ^ 64) (hs : x + x / 16 < 2 ^ 64) (h : (x + x / 16) &&& 1085102592571150095 = y) :
    (lN x + ((lN x).toUInt64 >>> ((4 : Int32).toInt64.toUInt64 &&& Int64.toUInt64 63)).toInt64) &&& 1085102592571150095 = lN y := by
  have e1 : ((lN x).toUInt64 >>> ((4 : Int32).toInt64.toUInt64 &&& Int64.toUInt64 63)).toInt64 = lN (x / 16) := wb_shr (k := 4) hx (by decide)
  have e2 : lN (x + x / 16) &&& (1085102592571150095 : Int64) = lN ((x + x / 16) &&& 1085102592571150095) := wb_and hs (by decide)
  rw [e1, lN_add, e2, h]
theorem zo_w4 {x y : Nat} (h : x * 72340172838076673 % 18446744073709551616 / 72057594037927936 = y) :
    (((lN x * 72340172838076673).toUInt64 >>> ((56 : Int32).toInt64.toUInt64 &&& Int64.toUInt64 63)).toInt64).toInt32 = nI y := by
  have e0 : lN x * (72340172838076673 : Int64) = lN (x * 72340172838076673 % 18446744073709551616) := (lN_mul x 72340172838076673).trans (wb_mod _)
  have e1 : ((lN (x * 72340172838076673 % 18446744073709551616)).toUInt64 >>> ((56 : Int32).toInt64.toUInt64 &&& Int64.toUInt64 63)).toInt64 = lN (x * 72340172838076673 % 18446744073709551616 / 72057594037927936) := wb_shr (k := 56) (Nat.mod_lt _ (by decide)) (by decide)
  rw [e0, e1, h, lN_i]
def zo_h (f : Nat → Nat) : Nat → Nat := fun i => f (2 * i) + f (2 * i + 1)
theorem zo_hle {f : Nat → Nat} {m : Nat} (h : ∀ i, f i ≤ m) (i : Nat) : zo_h f i ≤ m + m := Nat.add_le_add (h _) (h _)
theorem zo_h0 {f : Nat → Nat} {k : Nat} (h : ∀ i, 2 * k ≤ i → f i = 0) (i : Nat) (hi : k ≤ i) : zo_h f i = 0 := by
  show f (2 * i) + f (2 * i + 1) = 0
  rw [h (2 * i) (by omega), h (2 * i + 1) (by omega)]
theorem zo_w {post : Int32 → Prop} {d : Nat → Nat} (hd : ∀ i, d i ≤ 1) (h0 : ∀ i, 64 ≤ i → d i = 0) (h : post (nI (zs_sm d 64))) : wpX_ones post (lN (zo_E 2 64 d)) := by
  have hc : ∀ i, zo_h d i ≤ 2 := zo_hle hd
  have hc0 : ∀ i, 32 ≤ i → zo_h d i = 0 := zo_h0 (k := 32) h0
  have he : ∀ i, zo_h (zo_h d) i ≤ 4 := zo_hle hc
  have he0 : ∀ i, 16 ≤ i → zo_h (zo_h d) i = 0 := zo_h0 (k := 16) hc0
  have hg : ∀ i, zo_h (zo_h (zo_h d)) i ≤ 8 := zo_hle he
  have b0 : zo_E 2 64 d < 2 ^ 64 := zo_lt 64 (fun i => by have := hd i; omega)
  have b1 : zo_E 4 32 (zo_h d) < 2 ^ 64 := zo_lt 32 (fun i => by have := hc i; omega)
  have b2 : zo_E 16 16 (zo_h (zo_h d)) < 2 ^ 64 := zo_lt 16 (fun i => by have := he i; omega)
  have b3 : zo_E 16 16 (zo_h (zo_h d)) + zo_E 16 16 (zo_h (zo_h d)) / 16 < 2 ^ 64 := by
    rw [zo_div (by have := he 0; omega) (he0 16 (by omega)), zo_add]
    exact zo_lt 16 (fun i => by
      have := he i
      have := he (i + 1)
      show zo_h (zo_h d) i + zo_h (zo_h d) (i + 1) < 16
      omega)
  have m : zs_sm d 64 = zs_sm (zo_h (zo_h (zo_h d))) 8 := (zs_pair d 32).trans ((zs_pair (zo_h d) 16).trans (zs_pair (zo_h (zo_h d)) 8))
  have s1 : zo_E 2 64 d = zo_E 4 32 (zo_h d) + zo_E 4 32 (fun i => d (2 * i + 1)) := zo_1e
  have s2 := zo_2 (c := zo_h d) (fun i => by have := hc i; omega) hc0
  have s3 := zo_3 (e := zo_h (zo_h d)) he he0
  rw [m] at h
  unfold wpX_ones
  refine nm_r (e' := lN (zo_E 4 32 (zo_h d))) (zo_w1 b0 (zo_1 (fun i => by have := hd i; omega) h0) s1) ?_
  refine nm_r (e' := lN (zo_E 16 16 (zo_h (zo_h d)))) (zo_w2 b1 s2) ?_
  refine nm_r (e' := lN (zo_E 256 8 (zo_h (zo_h (zo_h d))))) (zo_w3 b2 b3 s3) ?_
  rw [zo_w4 (zo_4 hg)]
  exact h
theorem zo_ones {post : Int32 → Prop} (x : Int64) (h : post (nI (zc_ct (zl_b x) 64))) : wpX_ones post x := by
  obtain ⟨n, hn, rfl⟩ := wb_of x
  have hd : ∀ i, n / 2 ^ i % 2 ≤ 1 := fun i => by
    have := Nat.mod_lt (n / 2 ^ i) (show 2 > 0 by decide)
    omega
  have hd0 : ∀ i, 64 ≤ i → n / 2 ^ i % 2 = 0 := fun i hi => by
    rw [Nat.div_eq_of_lt (Nat.lt_of_lt_of_le hn (Nat.pow_le_pow_right (by decide) hi))]
  have en := zo_rep (B := 2) (by decide) 64 n hn
  have hs : zc_ct (zl_b (lN n)) 64 = zs_sm (fun i => n / 2 ^ i % 2) 64 := by
    rw [← zs_ct]
    apply zs_cg
    intro i _
    show (zl_b (lN n) i).toNat = n / 2 ^ i % 2
    rw [zl_lN hn]
    unfold zp_t
    rcases Nat.mod_two_eq_zero_or_one (n / 2 ^ i) with z | z <;> rw [z] <;> rfl
  rw [hs] at h
  have k := zo_w (post := post) (d := fun i => n / 2 ^ i % 2) hd hd0 h
  rw [en] at k
  exact k
end
section
/-! ===== digit by digit: compare, add ===== -/
theorem zp_div (x b : Nat) : x / 2 ^ (b + 1) = x / 2 ^ b / 2 := by
  rw [Nat.pow_succ, Nat.div_div_eq_div_mul]
theorem zp_lt (t k b : Nat) : decide (t / 2 ^ b < k / 2 ^ b) = (decide (t / 2 ^ (b + 1) < k / 2 ^ (b + 1)) || (decide (t / 2 ^ (b + 1) = k / 2 ^ (b + 1)) && (!zp_t t b && zp_t k b))) := by
  unfold zp_t
  rw [zp_div, zp_div]
  generalize t / 2 ^ b = T
  generalize k / 2 ^ b = K
  rw [Bool.eq_iff_iff]
  simp only [Bool.or_eq_true, Bool.and_eq_true, Bool.not_eq_true', decide_eq_true_eq, decide_eq_false_iff_not]
  omega
theorem zp_eq (t k b : Nat) : decide (t / 2 ^ b = k / 2 ^ b) = (decide (t / 2 ^ (b + 1) = k / 2 ^ (b + 1)) && !(zp_t t b ^^ zp_t k b)) := by
  unfold zp_t
  rw [zp_div, zp_div]
  generalize t / 2 ^ b = T
  generalize k / 2 ^ b = K
  rcases Nat.mod_two_eq_zero_or_one T with hT | hT <;> rcases Nat.mod_two_eq_zero_or_one K with hK | hK <;> rw [hT, hK, Bool.eq_iff_iff] <;> simp <;> omega
theorem zp_add {x y k : Nat} {c : Bool} (h : (x + y) / 2 ^ k = x / 2 ^ k + y / 2 ^ k + c.toNat) :
    zp_t (x + y) k = ((zp_t x k ^^ zp_t y k) ^^ c) ∧ (x + y) / 2 ^ (k + 1) = x / 2 ^ (k + 1) + y / 2 ^ (k + 1) + ((zp_t x k && zp_t y k) || ((zp_t x k ^^ zp_t y k) && c)).toNat := by
  unfold zp_t
  rw [zp_div, zp_div, zp_div, h]
  generalize x / 2 ^ k = X
  generalize y / 2 ^ k = Y
  rcases Nat.mod_two_eq_zero_or_one X with hX | hX <;> rcases Nat.mod_two_eq_zero_or_one Y with hY | hY <;> cases c <;> rw [hX, hY] <;> constructor <;> simp <;> omega
theorem zp_mod (n : Nat) {b : Nat} (hb : b < 8) : zp_t (n % 256) b = zp_t n b := by
  rw [← zp_tb, ← zp_tb, show (256 : Nat) = 2 ^ 8 from rfl, Nat.testBit_mod_two_pow, decide_eq_true hb, Bool.true_and]
theorem zp_2 (x b : Nat) : x / 2 ^ b = 2 * (x / 2 ^ (b + 1)) + (zp_t x b).toNat := by
  unfold zp_t
  rw [zp_div]
  generalize x / 2 ^ b = X
  rcases Nat.mod_two_eq_zero_or_one X with h | h <;> rw [h] <;> simp <;> omega
theorem zp_0 (b : Nat) : zp_t 0 b = false := by
  unfold zp_t
  rw [Nat.zero_div]; rfl
/-- which of less, equal is asked -/
def zq_ch (h : Int32) (l e : Bool) : Bool := if h = 0 then e else if h = 1 then l else if h = 2 then l || e else if h = 3 then !e else if h = 4 then !l else !(l || e)
def zq_jn (h : Int32) (l r : Bool) : Bool := if h = 0 then l && r else if h = 1 then l || r else if h = 2 then l ^^ r else l && !r
/-- a natural against an int -/
def zq_cc (x : Nat) (h k : Int32) : Bool := zq_ch h (decide ((x : Int) < k.toInt)) (decide ((x : Int) = k.toInt))
/-- condition i at a row with the values w, over the answers t of the conditions before -/
def zm_step (ks lf rg hw cn : Nat → Int32) (w : Nat → Nat) (t : Nat → Bool) (i : Nat) : Bool :=
  if ks i = 3 then zq_jn (hw i) (t (lf i).toNatClampNeg) (t (rg i).toNatClampNeg)
  else if ks i = 0 then zq_cc (w (lf i).toNatClampNeg) (hw i) (cn i)
  else if ks i = 1 then zq_ch (hw i) (decide (w (lf i).toNatClampNeg < w (rg i).toNatClampNeg)) (decide (w (lf i).toNatClampNeg = w (rg i).toNatClampNeg))
  else zq_cc (w (lf i).toNatClampNeg + w (rg i).toNatClampNeg) (hw i) (cn i)
def zm_tb (ks lf rg hw cn : Nat → Int32) (w : Nat → Nat) : Nat → Nat → Bool
  | 0 => fun _ => false
  | n + 1 => fun j => if j = n then zm_step ks lf rg hw cn w (zm_tb ks lf rg hw cn w n) n else zm_tb ks lf rg hw cn w n j
/-- the truth of condition i at a row with the values w -/
def zm_M (ks lf rg hw cn : Nat → Int32) (w : Nat → Nat) (i : Nat) : Bool := zm_step ks lf rg hw cn w (zm_tb ks lf rg hw cn w i) i
theorem zm_tM {ks lf rg hw cn : Nat → Int32} {w : Nat → Nat} : ∀ {n j : Nat}, j < n → zm_tb ks lf rg hw cn w n j = zm_M ks lf rg hw cn w j
  | 0, _, h => absurd h (Nat.not_lt_zero _)
  | n + 1, j, h => by
    show (if j = n then _ else _) = _
    by_cases e : j = n
    · rw [if_pos e, e]; rfl
    · rw [if_neg e]; exact zm_tM (by omega)
/-- a condition is well formed -/
def zm_ok (ks lf rg : Nat → Int32) (i : Nat) : Prop :=
  (ks i = 3 ∧ ∃ a b : Nat, a < i ∧ b < i ∧ lf i = nI a ∧ rg i = nI b) ∨ ((ks i = 0 ∨ ks i = 1 ∨ ks i = 2) ∧ ∃ a b : Nat, a < 3 ∧ b < 3 ∧ lf i = nI a ∧ rg i = nI b)
theorem zm_join {ks lf rg hw cn : Nat → Int32} {w : Nat → Nat} {i a b : Nat} (h : ks i = 3) (hi : i < 16) (ha : a < i) (hb : b < i) (ea : lf i = nI a) (eb : rg i = nI b) :
    zm_M ks lf rg hw cn w i = zq_jn (hw i) (zm_M ks lf rg hw cn w a) (zm_M ks lf rg hw cn w b) := by
  rw [zm_M, zm_step, if_pos h, ea, eb, nI_clamp (by omega), nI_clamp (by omega), zm_tM ha, zm_tM hb]
theorem zm_cmp {ks lf rg hw cn : Nat → Int32} {w : Nat → Nat} {i a : Nat} (h : ks i = 0) (ha : a < 3) (ea : lf i = nI a) :
    zm_M ks lf rg hw cn w i = zq_cc (w a) (hw i) (cn i) := by
  rw [zm_M, zm_step, if_neg (by rw [h]; decide), if_pos h, ea, nI_clamp (by omega)]
theorem zm_col {ks lf rg hw cn : Nat → Int32} {w : Nat → Nat} {i a b : Nat} (h : ks i = 1) (ha : a < 3) (hb : b < 3) (ea : lf i = nI a) (eb : rg i = nI b) :
    zm_M ks lf rg hw cn w i = zq_ch (hw i) (decide (w a < w b)) (decide (w a = w b)) := by
  rw [zm_M, zm_step, if_neg (by rw [h]; decide), if_neg (by rw [h]; decide), if_pos h, ea, eb, nI_clamp (by omega), nI_clamp (by omega)]
theorem zm_sum {ks lf rg hw cn : Nat → Int32} {w : Nat → Nat} {i a b : Nat} (h : ks i = 2) (ha : a < 3) (hb : b < 3) (ea : lf i = nI a) (eb : rg i = nI b) :
    zm_M ks lf rg hw cn w i = zq_cc (w a + w b) (hw i) (cn i) := by
  rw [zm_M, zm_step, if_neg (by rw [h]; decide), if_neg (by rw [h]; decide), if_neg (by rw [h]; decide), ea, eb, nI_clamp (by omega), nI_clamp (by omega)]
/-- only the conditions up to i matter -/
theorem zm_tcg {ks lf rg hw cn ks' lf' rg' hw' cn' : Nat → Int32} {w : Nat → Nat} : ∀ {n : Nat}, (∀ j, j < n → ks' j = ks j ∧ lf' j = lf j ∧ rg' j = rg j ∧ hw' j = hw j ∧ cn' j = cn j) → zm_tb ks' lf' rg' hw' cn' w n = zm_tb ks lf rg hw cn w n
  | 0, _ => rfl
  | n + 1, h => by
    obtain ⟨h1, h2, h3, h4, h5⟩ := h n (by omega)
    have e := zm_tcg (w := w) (n := n) (fun j hj => h j (by omega))
    funext j
    show (if j = n then zm_step ks' lf' rg' hw' cn' w (zm_tb ks' lf' rg' hw' cn' w n) n else zm_tb ks' lf' rg' hw' cn' w n j) = (if j = n then zm_step ks lf rg hw cn w (zm_tb ks lf rg hw cn w n) n else zm_tb ks lf rg hw cn w n j)
    rw [e]
    unfold zm_step
    rw [h1, h2, h3, h4, h5]
theorem zm_cg {ks lf rg hw cn ks' lf' rg' hw' cn' : Nat → Int32} {w : Nat → Nat} {i : Nat} (h : ∀ j, j ≤ i → ks' j = ks j ∧ lf' j = lf j ∧ rg' j = rg j ∧ hw' j = hw j ∧ cn' j = cn j) : zm_M ks' lf' rg' hw' cn' w i = zm_M ks lf rg hw cn w i := by
  have e := zm_tcg (w := w) (n := i) (fun j hj => h j (by omega))
  obtain ⟨h1, h2, h3, h4, h5⟩ := h i (Nat.le_refl _)
  unfold zm_M
  rw [e]
  unfold zm_step
  rw [h1, h2, h3, h4, h5]
/-- the rows that meet a condition (-1: all that are there) -/
def zm_S (pr : Int64) (ks lf rg hw cn : Nat → Int32) (W : Nat → Nat → Nat) (c : Int32) (r : Nat) : Bool :=
  zl_b pr r && (decide (c < 0) || zm_M ks lf rg hw cn (W r) c.toNatClampNeg)
/-- the slices hold the values -/
def zr_SL (sl : Nat → Int64) (W : Nat → Nat → Nat) : Prop := ∀ c, c < 3 → ∀ b, b < 8 → ∀ r, r < 64 → zl_b (sl (8 * c + b)) r = zp_t (W r c) b
def zr_VA (va : Nat → Int32) (W : Nat → Nat → Nat) : Prop := ∀ r, r < 64 → ∀ c, c < 3 → W r c < 256 ∧ va (3 * r + c) = nI (W r c)
def zr_TT (tt : Nat → Int64) (t : Nat → Nat) : Prop := ∀ b, b < 9 → ∀ r, r < 64 → zl_b (tt b) r = zp_t (t r) b
/-- what met holds: right for i below k, and where fresh -/
def zr_MT (m k : Nat) (pr : Int64) (ks lf rg hw cn : Nat → Int32) (W : Nat → Nat → Nat) (mt : Nat → Int64) (fr : Nat → Int32) : Prop :=
  ∀ i, i < m → (i < k ∨ ¬ fr i = 0) → ∀ r, r < 64 → zl_b (mt i) r = (zl_b pr r && zm_M ks lf rg hw cn (W r) i)
theorem zx_ix (c b : Nat) : (8 : Int32) * nI c + nI b = nI (8 * c + b) := by
  show nI 8 * nI c + nI b = _
  rw [pk_mul, nI_add]
theorem zx_iy (r c : Nat) : (3 : Int32) * nI r + nI c = nI (3 * r + c) := by
  show nI 3 * nI r + nI c = _
  rw [pk_mul, nI_add]
end
section
/-! ===== the component's small walks ===== -/
section
variable {pr ls qs : Int64} {nc : Int32} {sl mt tt st hv : Nat → Int64} {ks lf rg hw cn fr : Nat → Int32}
theorem zx_fgL {post : SX → Prop} (h : ∀ fr' : Nat → Int32, (∀ j, j < 16 → fr' j = 0) → post (pr, nc, ls, qs, sl, ks, lf, rg, hw, cn, mt, fr', tt, st, hv)) : ∀ (n i : Nat) (fr : Nat → Int32), i ≤ 16 → 16 - i < n → (∀ j, j < i → fr j = 0) → wX_forgetAnswers_2 post pr nc ls qs n (nI i) sl ks lf rg hw cn mt fr tt st hv := by
  intro n
  induction n with
  | zero => intro i fr hi hn; omega
  | succ n ih =>
    intro i fr hi hn hf
    refine pk_le 16 i (fun h16 => ?_) (fun h16 => ⟨pk_in i 16 h16, nm_e (nm_r (nI_1 i) ?_)⟩)
    · exact h fr (fun j hj => hf j (by omega))
    · rw [nI_clamp (show i < 2 ^ 31 by omega)]
      refine ih (i + 1) _ (by omega) (by omega) (fun j hj => ?_)
      by_cases e : j = i
      · rw [e, pk_us]; rfl
      · rw [pk_un e]; exact hf j (by omega)
theorem zx_fg {post : SX → Prop} (h : ∀ fr' : Nat → Int32, (∀ j, j < 16 → fr' j = 0) → post (pr, nc, ls, qs, sl, ks, lf, rg, hw, cn, mt, fr', tt, st, hv)) : wpX_forgetAnswers post (pr, nc, ls, qs, sl, ks, lf, rg, hw, cn, mt, fr, tt, st, hv) :=
  ⟨17, zx_fgL h 17 0 fr (by omega) (by omega) (fun j hj => absurd hj (Nat.not_lt_zero _))⟩
def zx_SC (sl s : Nat → Int64) (r c b : Nat) (v : Int32) : Prop := ∀ j, j < 24 → ∀ i, i < 64 → zl_b (s j) i = if (8 * c ≤ j ∧ j < 8 * c + b) ∧ i = r then bt v (j - 8 * c) else zl_b (sl j) i
theorem zx_SCs {sl s : Nat → Int64} {r c b : Nat} {v : Int32} (hr : r < 64) (hc : c < 3) (hb : b < 8) (h : zx_SC sl s r c b v) :
    zx_SC sl (vp_updL s (8 * c + b) (((s (8 * c + b)) &&& (((1 : Int64) <<< ((nI r).toInt64 &&& 63)) ^^^ (-1))) ||| (((((v.toUInt32 >>> ((nI b).toUInt32 &&& Int32.toUInt32 31)).toInt32) &&& 1).toInt64) <<< ((nI r).toInt64 &&& 63)))) r c (b + 1) v := by
  intro j hj i hi
  by_cases e : j = 8 * c + b
  · rw [e, pk_uLs, zl_or, zl_and, zl_not _ hi, zl_one r hr i hi, zl_dig v (by omega), zl_digL _ hr hi, h _ (by omega) i hi]
    rw [if_neg (fun z => by omega)]
    by_cases er : i = r
    · rw [if_pos ⟨by omega, er⟩, decide_eq_true er, show 8 * c + b - 8 * c = b by omega]
      simp
    · rw [if_neg (fun z => er z.2), decide_eq_false er]
      simp
  · rw [pk_uLn e, h j hj i hi]
    by_cases er : (8 * c ≤ j ∧ j < 8 * c + b) ∧ i = r
    · rw [if_pos er, if_pos ⟨by omega, er.2⟩]
    · rw [if_neg er, if_neg (fun z => er ⟨by omega, z.2⟩)]
theorem zx_scL {post : SX → Prop} {r c : Nat} {v : Int32} (hr : r < 64) (hc : c < 3) (h : ∀ s : Nat → Int64, zx_SC sl s r c 8 v → post (pr, nc, ls, qs, s, ks, lf, rg, hw, cn, mt, fr, tt, st, hv)) : ∀ (n b : Nat) (s : Nat → Int64), b ≤ 8 → 8 - b < n → zx_SC sl s r c b v → wX_setColumn_3 post (nI r) (nI c) v pr nc ls qs n (nI b) s ks lf rg hw cn mt fr tt st hv := by
  intro n
  induction n with
  | zero => intro i s hi hn; omega
  | succ n ih =>
    intro b s hb hn hs
    refine pk_le 8 b (fun h8 => ?_) (fun h8 => nm_r (zx_ix c b) ⟨pk_in (8 * c + b) 24 (by omega), pk_in (8 * c + b) 24 (by omega), nm_e (nm_r (nI_1 b) ?_)⟩)
    · obtain rfl : b = 8 := by omega
      exact h s hs
    · rw [nI_clamp (show 8 * c + b < 2 ^ 31 by omega)]
      exact ih (b + 1) _ (by omega) (by omega) (zx_SCs hr hc h8 hs)
theorem zx_sc {post : SX → Prop} {r c : Nat} {v : Int32} (hr : r < 64) (hc : c < 3) (h : ∀ s : Nat → Int64, zx_SC sl s r c 8 v → post (pr, nc, ls, qs, s, ks, lf, rg, hw, cn, mt, fr, tt, st, hv)) : wpX_setColumn post (pr, nc, ls, qs, sl, ks, lf, rg, hw, cn, mt, fr, tt, st, hv) (nI r) (nI c) v :=
  ⟨9, zx_scL hr hc h 9 0 sl (by omega) (by omega) (fun j _ i _ => by rw [if_neg (fun z => by omega)])⟩
theorem zx_tkL {post : SX → Prop} {c : Nat} (hc : c < 3) (h : ∀ t : Nat → Int64, (∀ b, b < 8 → t b = sl (8 * c + b)) → t 8 = 0 → post (pr, nc, ls, qs, sl, ks, lf, rg, hw, cn, mt, fr, t, st, hv)) : ∀ (n i : Nat) (tt : Nat → Int64), i ≤ 8 → 8 - i < n → (∀ b, b < i → tt b = sl (8 * c + b)) → wX_takeColumn_2 post (nI c) pr nc ls qs n (nI i) sl ks lf rg hw cn mt fr tt st hv := by
  intro n
  induction n with
  | zero => intro i s hi hn; omega
  | succ n ih =>
    intro i tt hi hn ht
    refine pk_le 8 i (fun h8 => nm_e ?_) (fun h8 => ?_)
    · refine h _ (fun b hb => ?_) pk_uLs
      rw [pk_uLn (by omega)]
      exact ht b (by omega)
    · rw [zx_ix c i]
      refine ⟨pk_in (8 * c + i) 24 (by omega), pk_in i 9 (by omega), nm_e (nm_r (nI_1 i) ?_)⟩
      rw [nI_clamp (show 8 * c + i < 2 ^ 31 by omega), nI_clamp (show i < 2 ^ 31 by omega)]
      refine ih (i + 1) _ (by omega) (by omega) (fun b hb => ?_)
      by_cases e : b = i
      · rw [e, pk_uLs]
      · rw [pk_uLn e]; exact ht b (by omega)
theorem zx_tk {post : SX → Prop} {c : Nat} (hc : c < 3) (h : ∀ t : Nat → Int64, (∀ b, b < 8 → t b = sl (8 * c + b)) → t 8 = 0 → post (pr, nc, ls, qs, sl, ks, lf, rg, hw, cn, mt, fr, t, st, hv)) : wpX_takeColumn post (pr, nc, ls, qs, sl, ks, lf, rg, hw, cn, mt, fr, tt, st, hv) (nI c) :=
  ⟨9, zx_tkL hc h 9 0 tt (by omega) (by omega) (fun j hj => absurd hj (Nat.not_lt_zero _))⟩
theorem zx_tkW {post : SX → Prop} {W : Nat → Nat → Nat} {c : Nat} (hW : ∀ r, r < 64 → W r c < 256) (hS : zr_SL sl W) (hc : c < 3) (h : ∀ t : Nat → Int64, zr_TT t (fun r => W r c) → post (pr, nc, ls, qs, sl, ks, lf, rg, hw, cn, mt, fr, t, st, hv)) : wpX_takeColumn post (pr, nc, ls, qs, sl, ks, lf, rg, hw, cn, mt, fr, tt, st, hv) (nI c) := by
  refine zx_tk hc (fun t h1 h2 => h t (fun b hb r hr => ?_))
  rcases Nat.lt_or_ge b 8 with h8 | h8
  · rw [h1 b h8]; exact hS c hc b h8 r hr
  · obtain rfl : b = 8 := by omega
    rw [h2, zl_0]
    have e : W r c / 2 ^ 8 = 0 := Nat.div_eq_of_lt (hW r hr)
    show false = decide (W r c / 2 ^ 8 % 2 = 1)
    rw [e]; rfl
/-- the carry into digit k -/
def zx_CA (W : Nat → Nat → Nat) (a b k : Nat) (x : Int64) : Prop := ∀ r, r < 64 → (W r a + W r b) / 2 ^ k = W r a / 2 ^ k + W r b / 2 ^ k + (zl_b x r).toNat
theorem zx_adL {post : SX → Prop} {W : Nat → Nat → Nat} {a b : Nat} (ha : a < 3) (hb : b < 3) (hWa : ∀ r, r < 64 → W r a < 256) (hWb : ∀ r, r < 64 → W r b < 256) (hS : zr_SL sl W) (h : ∀ t : Nat → Int64, zr_TT t (fun r => W r a + W r b) → post (pr, nc, ls, qs, sl, ks, lf, rg, hw, cn, mt, fr, t, st, hv)) : ∀ (n k : Nat) (x : Int64) (tt : Nat → Int64), k ≤ 8 → 8 - k < n → zx_CA W a b k x → (∀ j, j < k → ∀ r, r < 64 → zl_b (tt j) r = zp_t (W r a + W r b) j) → wX_addColumns_5 post (nI a) (nI b) pr nc ls qs n x (nI k) sl ks lf rg hw cn mt fr tt st hv := by
  intro n
  induction n with
  | zero => intro i x s hi hn; omega
  | succ n ih =>
    intro k x tt hk hn hx ht
    refine pk_le 8 k (fun h8 => nm_e ?_) (fun h8 => ?_)
    · refine h _ (fun j hj r hr => ?_)
      by_cases e : j = 8
      · obtain rfl : k = 8 := by omega
        rw [e, pk_uLs]
        have e1 := hx r hr
        have e2 := hWa r hr
        have e3 := hWb r hr
        rw [Nat.div_eq_of_lt (show W r a < 2 ^ 8 from e2), Nat.div_eq_of_lt (show W r b < 2 ^ 8 from e3)] at e1
        show zl_b x r = decide ((W r a + W r b) / 2 ^ 8 % 2 = 1)
        rw [e1]
        cases zl_b x r <;> rfl
      · rw [pk_uLn e]
        exact ht j (by omega) r hr
    · rw [zx_ix a k, zx_ix b k]
      refine ⟨pk_in (8 * a + k) 24 (by omega), nm_e ⟨pk_in (8 * b + k) 24 (by omega), nm_e ⟨pk_in k 9 (by omega), nm_e (nm_e (nm_r (nI_1 k) ?_))⟩⟩⟩
      rw [nI_clamp (show 8 * a + k < 2 ^ 31 by omega), nI_clamp (show 8 * b + k < 2 ^ 31 by omega), nI_clamp (show k < 2 ^ 31 by omega)]
      refine ih (k + 1) _ _ (by omega) (by omega) (fun r hr => ?_) (fun j hj r hr => ?_)
      · rw [zl_or, zl_and, zl_and, zl_xor, hS a ha k h8 r hr, hS b hb k h8 r hr]
        exact (zp_add (hx r hr)).2
      · by_cases e : j = k
        · rw [e, pk_uLs, zl_xor, zl_xor, hS a ha k h8 r hr, hS b hb k h8 r hr]
          exact (zp_add (hx r hr)).1.symm
        · rw [pk_uLn e]; exact ht j (by omega) r hr
theorem zx_ad {post : SX → Prop} {W : Nat → Nat → Nat} {a b : Nat} (ha : a < 3) (hb : b < 3) (hWa : ∀ r, r < 64 → W r a < 256) (hWb : ∀ r, r < 64 → W r b < 256) (hS : zr_SL sl W) (h : ∀ t : Nat → Int64, zr_TT t (fun r => W r a + W r b) → post (pr, nc, ls, qs, sl, ks, lf, rg, hw, cn, mt, fr, t, st, hv)) : wpX_addColumns post (pr, nc, ls, qs, sl, ks, lf, rg, hw, cn, mt, fr, tt, st, hv) (nI a) (nI b) :=
  ⟨9, zx_adL ha hb hWa hWb hS h 9 0 0 tt (by omega) (by omega) (fun r _ => by rw [zl_0, Nat.pow_zero, Nat.div_one, Nat.div_one, Nat.div_one]; rfl) (fun j hj => absurd hj (Nat.not_lt_zero _))⟩
/-- less and equal, by the digits from j on -/
def zx_LE (t k : Nat → Nat) (j : Nat) (l e : Int64) : Prop := ∀ r, r < 64 → zl_b l r = decide (t r / 2 ^ j < k r / 2 ^ j) ∧ zl_b e r = decide (t r / 2 ^ j = k r / 2 ^ j)
theorem zx_LEs {t k b : Nat} {l e : Bool} (h1 : l = decide (t / 2 ^ (b + 1) < k / 2 ^ (b + 1))) (h2 : e = decide (t / 2 ^ (b + 1) = k / 2 ^ (b + 1))) : (l || (e && (!zp_t t b && zp_t k b))) = decide (t / 2 ^ b < k / 2 ^ b) ∧ (e && !(zp_t t b ^^ zp_t k b)) = decide (t / 2 ^ b = k / 2 ^ b) := by
  rw [h1, h2]
  exact ⟨(zp_lt t k b).symm, (zp_eq t k b).symm⟩
theorem zx_cwL {post : SX → Prop} {t : Nat → Nat} {k : Nat} (hk : k < 512) (hT : zr_TT tt t) (h : ∀ l e : Int64, zx_LE t (fun _ => k) 0 l e → post (pr, nc, l, e, sl, ks, lf, rg, hw, cn, mt, fr, tt, st, hv)) : ∀ (n j : Nat) (l e : Int64), j ≤ 9 → j < n → zx_LE t (fun _ => k) j l e → wX_compareWithConstant_45 post (nI k) pr nc sl ks lf rg hw cn mt fr tt st hv n (nI j + (-1)) l e := by
  intro n
  induction n with
  | zero => intro i x s hi hn; omega
  | succ n ih =>
    intro j l e hj hn hle
    cases j with
    | zero =>
      rw [show nI 0 + (-1) = -1 from rfl]
      exact br_t (by decide) (h l e hle)
    | succ b =>
      rw [pk_m1]
      have hb : b < 9 := by omega
      have ec : (((nI k).toUInt32 >>> ((nI b).toUInt32 &&& Int32.toUInt32 31)).toInt32 &&& 1) = zb_i (zp_t k b) := by
        rw [zl_dig _ (by omega), zl_bt, pk_tn (by omega)]
      refine br_f (nI_pos (by omega)) ?_
      rw [ec]
      cases z : zp_t k b
      · refine br_t rfl ⟨pk_in b 9 hb, nm_e (nm_e ?_)⟩
        rw [nI_clamp (show b < 2 ^ 31 by omega)]
        refine ih b _ _ (by omega) (by omega) (fun r hr => ?_)
        have K := zx_LEs (t := t r) (k := k) (hle r hr).1 (hle r hr).2
        refine ⟨Eq.trans ?_ K.1, Eq.trans ?_ K.2⟩
        · rw [z]; simp
        · rw [zl_and, zl_not _ hr, hT b hb r hr, z]; simp
      · refine br_f (by decide) ⟨pk_in b 9 hb, nm_e ⟨pk_in b 9 hb, nm_e (nm_e ?_)⟩⟩
        rw [nI_clamp (show b < 2 ^ 31 by omega)]
        refine ih b _ _ (by omega) (by omega) (fun r hr => ?_)
        have K := zx_LEs (t := t r) (k := k) (hle r hr).1 (hle r hr).2
        refine ⟨Eq.trans ?_ K.1, Eq.trans ?_ K.2⟩
        · rw [zl_or, zl_and, zl_not _ hr, hT b hb r hr, z]; simp
        · rw [zl_and, hT b hb r hr, z]; simp
theorem zx_cw {post : SX → Prop} {t : Nat → Nat} (k : Int32) (hB : ∀ r, r < 64 → t r < 512) (hT : zr_TT tt t) (h : ∀ l e : Int64, (∀ r, r < 64 → zl_b l r = decide ((t r : Int) < k.toInt) ∧ zl_b e r = decide ((t r : Int) = k.toInt)) → post (pr, nc, l, e, sl, ks, lf, rg, hw, cn, mt, fr, tt, st, hv)) : wpX_compareWithConstant post (pr, nc, ls, qs, sl, ks, lf, rg, hw, cn, mt, fr, tt, st, hv) k := by
  by_cases h0 : 0 ≤ k
  · refine br_t h0 ?_
    obtain ⟨n, hn, rfl⟩ := nI_of (Int32.not_lt.mpr h0)
    refine pk_le n 511 (fun hle => ⟨10, ?_⟩) (fun hlt => ?_)
    · refine zx_cwL (k := n) (by omega) hT (fun l e hl => h l e (fun r hr => ?_)) 10 9 0 (-1) (by omega) (by omega) (fun r hr => ?_)
      · have h1 : zl_b l r = decide (t r / 2 ^ 0 < n / 2 ^ 0) := (hl r hr).1
        have h2 : zl_b e r = decide (t r / 2 ^ 0 = n / 2 ^ 0) := (hl r hr).2
        rw [h1, h2, nI_toInt hn, Nat.pow_zero, Nat.div_one, Nat.div_one]
        constructor
        · rw [Bool.eq_iff_iff, decide_eq_true_eq, decide_eq_true_eq]; omega
        · rw [Bool.eq_iff_iff, decide_eq_true_eq, decide_eq_true_eq]; omega
      · rw [Nat.div_eq_of_lt (show t r < 2 ^ 9 from hB r hr), Nat.div_eq_of_lt (show n < 2 ^ 9 by omega), zl_0, zl_m1 r hr]
        exact ⟨rfl, rfl⟩
    · refine h _ _ (fun r hr => ?_)
      have := hB r hr
      rw [nI_toInt hn, zl_0, zl_m1 r hr, decide_eq_true (by omega), decide_eq_false (by omega)]
      exact ⟨rfl, rfl⟩
  · refine br_f h0 (h _ _ (fun r hr => ?_))
    have e0 : (0 : Int32).toInt = 0 := by decide
    rw [Int32.le_iff_toInt_le, e0] at h0
    rw [zl_0, decide_eq_false (by omega), decide_eq_false (by omega)]
    exact ⟨rfl, rfl⟩
theorem zx_ccL {post : SX → Prop} {W : Nat → Nat → Nat} {a b : Nat} (ha : a < 3) (hb : b < 3) (hS : zr_SL sl W) (h : ∀ l e : Int64, zx_LE (fun r => W r a) (fun r => W r b) 0 l e → post (pr, nc, l, e, sl, ks, lf, rg, hw, cn, mt, fr, tt, st, hv)) : ∀ (n j : Nat) (l e : Int64), j ≤ 8 → j < n → zx_LE (fun r => W r a) (fun r => W r b) j l e → wX_compareColumns_15 post (nI a) (nI b) pr nc sl ks lf rg hw cn mt fr tt st hv n (nI j + (-1)) l e := by
  intro n
  induction n with
  | zero => intro i x s hi hn; omega
  | succ n ih =>
    intro j l e hj hn hle
    cases j with
    | zero =>
      rw [show nI 0 + (-1) = -1 from rfl]
      exact br_t (by decide) (h l e hle)
    | succ k =>
      rw [pk_m1]
      refine br_f (nI_pos (by omega)) ?_
      rw [zx_ix a k, zx_ix b k]
      refine ⟨pk_in (8 * a + k) 24 (by omega), nm_e ⟨pk_in (8 * b + k) 24 (by omega), nm_e (nm_e (nm_e (nm_e ?_)))⟩⟩
      rw [nI_clamp (show 8 * a + k < 2 ^ 31 by omega), nI_clamp (show 8 * b + k < 2 ^ 31 by omega)]
      refine ih k _ _ (by omega) (by omega) (fun r hr => ?_)
      have K := zx_LEs (t := W r a) (k := W r b) (hle r hr).1 (hle r hr).2
      refine ⟨Eq.trans ?_ K.1, Eq.trans ?_ K.2⟩
      · rw [zl_or, zl_and, zl_and, zl_not _ hr, hS a ha k (by omega) r hr, hS b hb k (by omega) r hr, Bool.and_assoc]
      · rw [zl_and, zl_not _ hr, zl_xor, hS a ha k (by omega) r hr, hS b hb k (by omega) r hr]
theorem zx_cc {post : SX → Prop} {W : Nat → Nat → Nat} {a b : Nat} (ha : a < 3) (hb : b < 3) (hWa : ∀ r, r < 64 → W r a < 256) (hWb : ∀ r, r < 64 → W r b < 256) (hS : zr_SL sl W) (h : ∀ l e : Int64, (∀ r, r < 64 → zl_b l r = decide (W r a < W r b) ∧ zl_b e r = decide (W r a = W r b)) → post (pr, nc, l, e, sl, ks, lf, rg, hw, cn, mt, fr, tt, st, hv)) : wpX_compareColumns post (pr, nc, ls, qs, sl, ks, lf, rg, hw, cn, mt, fr, tt, st, hv) (nI a) (nI b) := by
  refine ⟨9, zx_ccL ha hb hS (fun l e hl => h l e (fun r hr => ?_)) 9 8 0 (-1) (by omega) (by omega) (fun r hr => ?_)⟩
  · obtain ⟨h1, h2⟩ := hl r hr
    rw [h1, h2]
    simp
  · show zl_b 0 r = decide (W r a / 2 ^ 8 < W r b / 2 ^ 8) ∧ zl_b (-1) r = decide (W r a / 2 ^ 8 = W r b / 2 ^ 8)
    rw [Nat.div_eq_of_lt (show W r a < 2 ^ 8 from hWa r hr), Nat.div_eq_of_lt (show W r b < 2 ^ 8 from hWb r hr), zl_0, zl_m1 r hr]
    exact ⟨rfl, rfl⟩
theorem zx_ch {post : Int64 → Prop} (k : Int32) (h : ∀ v : Int64, (∀ r, r < 64 → zl_b v r = zq_ch k (zl_b ls r) (zl_b qs r)) → post v) : wpX_chosen post (pr, nc, ls, qs, sl, ks, lf, rg, hw, cn, mt, fr, tt, st, hv) k := by
  unfold zq_ch at h
  by_cases h0 : k = 0
  · exact br_t h0 (h _ (fun r _ => by rw [if_pos h0]))
  · refine br_f h0 ?_
    simp only [if_neg h0] at h
    by_cases h1 : k = 1
    · exact br_t h1 (h _ (fun r _ => by rw [if_pos h1]))
    · refine br_f h1 ?_
      simp only [if_neg h1] at h
      by_cases h2 : k = 2
      · exact br_t h2 (h _ (fun r _ => by rw [if_pos h2, zl_or]))
      · refine br_f h2 ?_
        simp only [if_neg h2] at h
        by_cases h3 : k = 3
        · exact br_t h3 (h _ (fun r hr => by rw [if_pos h3, zl_not _ hr]))
        · refine br_f h3 ?_
          simp only [if_neg h3] at h
          by_cases h4 : k = 4
          · exact br_t h4 (h _ (fun r hr => by rw [if_pos h4, zl_not _ hr]))
          · exact br_f h4 (h _ (fun r hr => by rw [if_neg h4, zl_not _ hr, zl_or]))
end
end
section
/-! ===== conditions worked out for all rows ===== -/
section
variable {pr ls qs : Int64} {nc : Int32} {sl mt tt st hv : Nat → Int64} {ks lf rg hw cn fr : Nat → Int32} {W : Nat → Nat → Nat}
theorem zx_jn (p a b : Bool) (k : Int32) (x y : Int64) {r : Nat} (hr : r < 64) (hx : zl_b x r = (p && a)) (hy : zl_b y r = (p && b)) :
    (k = 0 → (zl_b (x &&& y) r && p) = (p && zq_jn k a b)) ∧ (k = 1 → (zl_b (x ||| y) r && p) = (p && zq_jn k a b)) ∧ (k = 2 → (zl_b (x ^^^ y) r && p) = (p && zq_jn k a b)) ∧ (¬ k = 0 → ¬ k = 1 → ¬ k = 2 → (zl_b (x &&& (y ^^^ (-1))) r && p) = (p && zq_jn k a b)) := by
  rw [zl_and, zl_or, zl_xor, zl_and, zl_not _ hr, hx, hy]
  unfold zq_jn
  refine ⟨fun h => ?_, fun h => ?_, fun h => ?_, fun h0 h1 h2 => ?_⟩
  · rw [if_pos h]
    cases p <;> cases a <;> cases b <;> rfl
  · rw [if_neg (by rw [h]; decide), if_pos h]
    cases p <;> cases a <;> cases b <;> rfl
  · rw [if_neg (by rw [h]; decide), if_neg (by rw [h]; decide), if_pos h]
    cases p <;> cases a <;> cases b <;> rfl
  · rw [if_neg h0, if_neg h1, if_neg h2]
    cases p <;> cases a <;> cases b <;> rfl
theorem zx_wo181 {post : Int64 → SX → Prop} {k : Nat} (hk : k < 16) (h : ∀ v : Int64, (∀ r, r < 64 → zl_b v r = zq_ch (hw k) (zl_b ls r) (zl_b qs r)) → post v (pr, nc, ls, qs, sl, ks, lf, rg, hw, cn, mt, fr, tt, st, hv)) : wX_workOut_181 post (nI k) pr nc ls qs sl ks lf rg hw cn mt fr tt st hv := by
  unfold wX_workOut_181
  rw [nI_clamp (show k < 2 ^ 31 by omega)]
  exact ⟨pk_in k 16 hk, zx_ch (hw k) h⟩
theorem zx_wo {post : Int64 → SX → Prop} {k : Nat} (hk : k < 16) (hW : ∀ r, r < 64 → ∀ c, c < 3 → W r c < 256) (hS : zr_SL sl W) (hok : zm_ok ks lf rg k) (hM : ∀ i, i < k → ∀ r, r < 64 → zl_b (mt i) r = (zl_b pr r && zm_M ks lf rg hw cn (W r) i)) (h : ∀ (v l e : Int64) (t : Nat → Int64), (∀ r, r < 64 → (zl_b v r && zl_b pr r) = (zl_b pr r && zm_M ks lf rg hw cn (W r) k)) → post v (pr, nc, l, e, sl, ks, lf, rg, hw, cn, mt, fr, t, st, hv)) : wpX_workOut post (pr, nc, ls, qs, sl, ks, lf, rg, hw, cn, mt, fr, tt, st, hv) (nI k) := by
  have pin : vp_in (nI k) 16 := pk_in k 16 hk
  have ck : (nI k).toNatClampNeg = k := nI_clamp (by omega)
  unfold wpX_workOut
  simp only [ck]
  refine ⟨pin, ?_⟩
  rcases hok with ⟨h3, a, b, ha, hb, ea, eb⟩ | ⟨hks, a, b, ha, hb, ea, eb⟩
  · refine br_t h3 ?_
    have ca : (nI a).toNatClampNeg = a := nI_clamp (by omega)
    have cb : (nI b).toNatClampNeg = b := nI_clamp (by omega)
    rw [ea, eb, ca, cb]
    have hj := fun r (hr : r < 64) => zx_jn (zl_b pr r) (zm_M ks lf rg hw cn (W r) a) (zm_M ks lf rg hw cn (W r) b) (hw k) (mt a) (mt b) hr (hM a ha r hr) (hM b hb r hr)
    have hm := fun r => zm_join (hw := hw) (cn := cn) (w := W r) h3 hk ha hb ea eb
    refine ⟨pin, pk_in a 16 (by omega), nm_e ⟨pin, pk_in b 16 (by omega), nm_e ⟨pin, br_c (fun h0 => ?_) (fun h0 => ⟨pin, br_c (fun h1 => ?_) (fun h1 => ⟨pin, br_c (fun h2 => ?_) (fun h2 => ?_)⟩)⟩)⟩⟩⟩
    · exact h _ ls qs tt (fun r hr => by rw [hm r]; exact (hj r hr).1 h0)
    · exact h _ ls qs tt (fun r hr => by rw [hm r]; exact (hj r hr).2.1 h1)
    · exact h _ ls qs tt (fun r hr => by rw [hm r]; exact (hj r hr).2.2.1 h2)
    · exact h _ ls qs tt (fun r hr => by rw [hm r]; exact (hj r hr).2.2.2 h0 h1 h2)
  · have h3 : ¬ ks k = 3 := by rcases hks with e | e | e <;> rw [e] <;> decide
    refine br_f h3 ⟨pin, ?_⟩
    by_cases h0 : ks k = 0
    · refine br_t h0 ⟨pin, ?_⟩
      rw [ea]
      refine zx_tkW (W := W) (fun r hr => hW r hr a ha) hS ha (fun t ht => ?_)
      refine ⟨pin, ?_⟩
      refine zx_cw (t := fun r => W r a) (cn k) (fun r hr => by have := hW r hr a ha; show W r a < 512; omega) ht (fun l e hle => ?_)
      refine zx_wo181 hk (fun v hv => h v l e t (fun r hr => ?_))
      rw [hv r hr, (hle r hr).1, (hle r hr).2, zm_cmp h0 ha ea, Bool.and_comm]
      rfl
    · refine br_f h0 ⟨pin, ?_⟩
      by_cases h1 : ks k = 1
      · refine br_t h1 ⟨pin, pin, ?_⟩
        rw [ea, eb]
        refine zx_cc (W := W) ha hb (fun r hr => hW r hr a ha) (fun r hr => hW r hr b hb) hS (fun l e hle => ?_)
        refine zx_wo181 hk (fun v hv => h v l e tt (fun r hr => ?_))
        rw [hv r hr, (hle r hr).1, (hle r hr).2, zm_col h1 ha hb ea eb, Bool.and_comm]
      · refine br_f h1 ⟨pin, pin, ?_⟩
        have h2 : ks k = 2 := by
          rcases hks with e | e | e
          · exact absurd e h0
          · exact absurd e h1
          · exact e
        rw [ea, eb]
        refine zx_ad (W := W) ha hb (fun r hr => hW r hr a ha) (fun r hr => hW r hr b hb) hS (fun t ht => ?_)
        refine ⟨pin, ?_⟩
        refine zx_cw (t := fun r => W r a + W r b) (cn k) (fun r hr => by have := hW r hr a ha; have := hW r hr b hb; show W r a + W r b < 512; omega) ht (fun l e hle => ?_)
        refine zx_wo181 hk (fun v hv => h v l e t (fun r hr => ?_))
        rw [hv r hr, (hle r hr).1, (hle r hr).2, zm_sum h2 ha hb ea eb, Bool.and_comm]
        rfl
theorem zx_roL {post : Int64 → SX → Prop} {m c : Nat} (hm : m ≤ 16) (hc : c < m) (hW : ∀ r, r < 64 → ∀ c, c < 3 → W r c < 256) (hS : zr_SL sl W) (hok : ∀ i, i < m → zm_ok ks lf rg i) (h : ∀ (l e : Int64) (t mt : Nat → Int64) (fr : Nat → Int32), zr_MT m (c + 1) pr ks lf rg hw cn W mt fr → post (mt c) (pr, nc, l, e, sl, ks, lf, rg, hw, cn, mt, fr, t, st, hv)) : ∀ (n k : Nat) (ls qs : Int64) (tt mt : Nat → Int64) (fr : Nat → Int32), k ≤ c + 1 → c + 1 - k < n → zr_MT m k pr ks lf rg hw cn W mt fr → wX_rowsOf_11 post (nI c) n (nI k) pr nc ls qs sl ks lf rg hw cn mt fr tt st hv := by
  intro n
  induction n with
  | zero => intro k ls qs tt mt fr hk hn; omega
  | succ n ih =>
    intro k ls qs tt mt fr hk hn hM
    have pin : ∀ i, i < m → vp_in (nI i) 16 := fun i hi => pk_in i 16 (by omega)
    refine pk_lt c k (fun hlt => ⟨pin c hc, ?_⟩) (fun hle => ⟨pin k (by omega), ?_⟩)
    · obtain rfl : k = c + 1 := by omega
      rw [nI_clamp (show c < 2 ^ 31 by omega)]
      exact h ls qs tt mt fr hM
    · have ck : (nI k).toNatClampNeg = k := nI_clamp (by omega)
      rw [ck]
      by_cases hf : fr k = 0
      · refine br_t hf ?_
        refine zx_wo (W := W) (by omega) hW hS (hok k (by omega)) (fun i hi => hM i (by omega) (Or.inl hi)) (fun v l e t hv => ?_)
        refine ⟨pin k (by omega), nm_e ⟨pin k (by omega), nm_e (nm_r (nI_1 k) ?_)⟩⟩
        refine ih (k + 1) l e t _ _ (by omega) (by omega) (fun i hi hor r hr => ?_)
        by_cases ei : i = k
        · rw [ei, pk_uLs, zl_and]
          exact hv r hr
        · rw [pk_uLn ei]
          rw [pk_un ei] at hor
          refine hM i hi ?_ r hr
          rcases hor with z | z
          · exact Or.inl (by omega)
          · exact Or.inr z
      · refine br_f hf (nm_r (nI_1 k) ?_)
        refine ih (k + 1) ls qs tt mt fr (by omega) (by omega) (fun i hi hor r hr => ?_)
        refine hM i hi ?_ r hr
        by_cases ei : i = k
        · rw [ei]; exact Or.inr hf
        · rcases hor with z | z
          · exact Or.inl (by omega)
          · exact Or.inr z
theorem zx_ro {post : Int64 → SX → Prop} {m : Nat} {c : Int32} (hm : m ≤ 16) (hc : c = -1 ∨ ∃ i, i < m ∧ c = nI i) (hW : ∀ r, r < 64 → ∀ c, c < 3 → W r c < 256) (hS : zr_SL sl W) (hok : ∀ i, i < m → zm_ok ks lf rg i) (hM : zr_MT m 0 pr ks lf rg hw cn W mt fr) (h : ∀ (v l e : Int64) (t mt : Nat → Int64) (fr : Nat → Int32), (∀ r, r < 64 → zl_b v r = zm_S pr ks lf rg hw cn W c r) → zr_MT m 0 pr ks lf rg hw cn W mt fr → post v (pr, nc, l, e, sl, ks, lf, rg, hw, cn, mt, fr, t, st, hv)) : wpX_rowsOf post (pr, nc, ls, qs, sl, ks, lf, rg, hw, cn, mt, fr, tt, st, hv) c := by
  rcases hc with rfl | ⟨i, hi, rfl⟩
  · refine br_f (by decide) (h pr ls qs tt mt fr (fun r _ => ?_) hM)
    show _ = (zl_b pr r && (decide ((-1 : Int32) < 0) || _))
    rw [decide_eq_true (by decide), Bool.true_or, Bool.and_true]
  · refine br_t (nI_pos' (by omega)) ⟨i + 2, ?_⟩
    refine zx_roL (W := W) (m := m) hm hi hW hS hok (fun l e t mt fr hM => h (mt i) l e t mt fr (fun r hr => ?_) (fun j hj hor r hr => ?_)) (i + 2) 0 ls qs tt mt fr (by omega) (by omega) hM
    · rw [hM i hi (Or.inl (by omega)) r hr]
      unfold zm_S
      rw [nI_clamp (show i < 2 ^ 31 by omega), decide_eq_false (nI_pos (by omega)), Bool.false_or]
    · refine hM j hj ?_ r hr
      rcases hor with z | z
      · omega
      · exact Or.inr z
end
end
section
/-! ===== plain laws of the questions ===== -/
theorem za_two {f g h : Nat → Bool} : ∀ {n : Nat}, (∀ i, i < n → (h i).toNat = (f i).toNat + (g i).toNat) → zc_ct h n = zc_ct f n + zc_ct g n
  | 0, _ => rfl
  | n + 1, e => by
    have a := za_two (n := n) (fun i hi => e i (by omega))
    have b := e n (by omega)
    rw [zc_s, zc_s, zc_s]; omega
/-- sums by digits -/
def za_v (S : Nat → Bool) (w : Nat → Nat) (j r : Nat) : Nat := if S r = true then w r / 2 ^ j else 0
theorem za_bit (S : Nat → Bool) (w : Nat → Nat) (b : Nat) : ∀ n, 2 * zs_sm (za_v S w (b + 1)) n + zc_ct (fun r => S r && zp_t (w r) b) n = zs_sm (za_v S w b) n
  | 0 => rfl
  | n + 1 => by
    have e := za_bit S w b n
    have e2 := zp_2 (w n) b
    rw [zs_s, zs_s, zc_s, Nat.mul_add]
    unfold za_v at *
    cases S n
    · simp only [Bool.false_and, Bool.false_eq_true, if_false, Bool.toNat_false]
      omega
    · simp only [Bool.true_and, if_true]
      omega
theorem za_top {S : Nat → Bool} {w : Nat → Nat} (hw : ∀ r, r < 64 → w r < 256) : ∀ n, n ≤ 64 → zs_sm (za_v S w 8) n = 0
  | 0, _ => rfl
  | n + 1, h => by
    rw [zs_s, za_top hw n (by omega)]
    unfold za_v
    rw [Nat.div_eq_of_lt (show w n < 2 ^ 8 from hw n (by omega))]
    cases S n <;> rfl
/-- ranks by digits -/
theorem za_q0 (w b q : Nat) : decide (w / 2 ^ b = 2 * q) = (decide (w / 2 ^ (b + 1) = q) && !zp_t w b) := by
  unfold zp_t
  rw [zp_div]
  generalize w / 2 ^ b = X
  rw [Bool.eq_iff_iff]
  simp only [Bool.and_eq_true, Bool.not_eq_true', decide_eq_true_eq, decide_eq_false_iff_not]
  omega
theorem za_q1 (w b q : Nat) : decide (w / 2 ^ b = 2 * q + 1) = (decide (w / 2 ^ (b + 1) = q) && zp_t w b) := by
  unfold zp_t
  rw [zp_div]
  generalize w / 2 ^ b = X
  rw [Bool.eq_iff_iff]
  simp only [Bool.and_eq_true, decide_eq_true_eq]
  omega
theorem za_l0 (w b q : Nat) : decide (w / 2 ^ b < 2 * q) = decide (w / 2 ^ (b + 1) < q) := by
  rw [zp_div]
  generalize w / 2 ^ b = X
  rw [Bool.eq_iff_iff]
  simp only [decide_eq_true_eq]
  omega
def za_lt (S : Nat → Bool) (w : Nat → Nat) (j q r : Nat) : Bool := S r && decide (w r / 2 ^ j < q)
def za_eq (S : Nat → Bool) (w : Nat → Nat) (j q r : Nat) : Bool := S r && decide (w r / 2 ^ j = q)
theorem za_step (S : Nat → Bool) (w : Nat → Nat) (j q n : Nat) : zc_ct (za_lt S w j (q + 1)) n = zc_ct (za_lt S w j q) n + zc_ct (za_eq S w j q) n := by
  apply za_two
  intro r _
  unfold za_lt za_eq
  generalize w r / 2 ^ j = X
  cases S r
  · rfl
  · rcases Nat.lt_trichotomy X q with h | h | h
    · rw [decide_eq_true (show X < q + 1 by omega), decide_eq_true h, decide_eq_false (show ¬ X = q by omega)]; rfl
    · rw [decide_eq_true (show X < q + 1 by omega), decide_eq_false (show ¬ X < q by omega), decide_eq_true h]; rfl
    · rw [decide_eq_false (show ¬ X < q + 1 by omega), decide_eq_false (show ¬ X < q by omega), decide_eq_false (show ¬ X = q by omega)]; rfl
theorem za_dbl (S : Nat → Bool) (w : Nat → Nat) (b q n : Nat) : zc_ct (za_lt S w b (2 * q)) n = zc_ct (za_lt S w (b + 1) q) n :=
  zc_cg (fun r _ => by unfold za_lt; rw [za_l0])
theorem za_half (S : Nat → Bool) (w : Nat → Nat) (b q n : Nat) : zc_ct (za_eq S w (b + 1) q) n = zc_ct (za_eq S w b (2 * q)) n + zc_ct (za_eq S w b (2 * q + 1)) n := by
  rw [zc_split (za_eq S w (b + 1) q) (fun r => zp_t (w r) b), Nat.add_comm]
  congr 1
  · exact zc_cg (fun r _ => by unfold za_eq; rw [za_q0, Bool.and_assoc])
  · exact zc_cg (fun r _ => by unfold za_eq; rw [za_q1, Bool.and_assoc])
theorem za_or : ∀ b, b < 8 → ∀ q, q < 128 → q * 2 ^ (b + 1) < 256 → nI (q * 2 ^ (b + 1)) ||| ((1 : Int32) <<< (nI b &&& 31)) = nI ((2 * q + 1) * 2 ^ b) := by decide +kernel
/-- the number of different values, by digits from b on -/
def za_F (w : Nat → Nat) (b : Nat) (s : Int64) : Nat := zc_ct (fun u => decide (0 < zc_ct (za_eq (zl_b s) w b u) 64)) (2 ^ (8 - b))
theorem za_F0 (w : Nat → Nat) (b : Nat) : za_F w b 0 = 0 := by
  refine zc_nil (fun u _ => decide_eq_false ?_)
  rw [zc_nil (fun r _ => by unfold za_eq; rw [zl_0, Bool.false_and])]
  exact Nat.lt_irrefl 0
theorem za_F8 {w : Nat → Nat} (hw : ∀ r, r < 64 → w r < 256) {s : Int64} (h : ¬ s = 0) : za_F w 8 s = 1 := by
  obtain ⟨r, hr, hb⟩ := zl_ne.mp h
  unfold za_F
  show 0 + (decide (0 < zc_ct (za_eq (zl_b s) w 8 0) 64)).toNat = 1
  rw [decide_eq_true (zc_pos hr (by unfold za_eq; rw [hb, Nat.div_eq_of_lt (show w r < 2 ^ 8 from hw r hr)]; rfl))]
  rfl
theorem za_Fs {w : Nat → Nat} {b : Nat} (hb : b < 8) {d : Int64} (hd : ∀ r, r < 64 → zl_b d r = zp_t (w r) b) (s : Int64) : za_F w b s = za_F w (b + 1) (s &&& d) + za_F w (b + 1) (s &&& (d ^^^ (-1))) := by
  unfold za_F
  rw [show 2 ^ (8 - b) = 2 * 2 ^ (8 - (b + 1)) by rw [show 8 - b = 8 - (b + 1) + 1 by omega, Nat.pow_succ, Nat.mul_comm], zc_dbl, Nat.add_comm]
  congr 1
  · refine zc_cg (fun u _ => ?_)
    rw [zc_cg (f := za_eq (zl_b s) w b (2 * u + 1)) (g := za_eq (zl_b (s &&& d)) w (b + 1) u) (fun r hr => ?_)]
    unfold za_eq
    rw [za_q1, zl_and, hd r hr, Bool.and_assoc, Bool.and_comm (zp_t (w r) b)]
  · refine zc_cg (fun u _ => ?_)
    rw [zc_cg (f := za_eq (zl_b s) w b (2 * u)) (g := za_eq (zl_b (s &&& (d ^^^ (-1)))) w (b + 1) u) (fun r hr => ?_)]
    unfold za_eq
    rw [za_q0, zl_and, zl_not _ hr, hd r hr, Bool.and_assoc, Bool.and_comm (!zp_t (w r) b)]
/-- the ones -/
def za_P (s : Int64) : Nat := zc_ct (zl_b s) 64
theorem za_P0 : za_P 0 = 0 := zc_nil (fun r _ => zl_0 r)
theorem za_Pp {s : Int64} (h : ¬ s = 0) : 0 < za_P s := by
  obtain ⟨r, hr, hb⟩ := zl_ne.mp h
  exact zc_pos hr hb
theorem za_Ps (s d : Int64) : za_P s = za_P (s &&& d) + za_P (s &&& (d ^^^ (-1))) := by
  unfold za_P
  rw [zc_split (zl_b s) (zl_b d) 64]
  congr 1
  · exact zc_cg (fun r _ => (zl_and _ _ _).symm)
  · exact zc_cg (fun r hr => by rw [zl_and, zl_not _ hr])
/-- the halves h[0 .. m) are the sets of st[0 .. k) split by d, with a further ones -/
def za_J (st h : Nat → Int64) (d : Int64) (m k : Nat) (a : (Int64 → Nat) → Nat) : Prop :=
  (∀ j, j < m → ¬ h j = 0) ∧ ∀ g : Int64 → Nat, g 0 = 0 → zs_sm (fun j => g (h j)) m = zs_sm (fun i => g (st i &&& d) + g (st i &&& (d ^^^ (-1)))) k + a g
theorem za_J0 (st h : Nat → Int64) (d : Int64) : za_J st h d 0 0 (fun _ => 0) := ⟨fun j hj => absurd hj (Nat.not_lt_zero _), fun _ _ => rfl⟩
theorem za_Jp {st h : Nat → Int64} {d x : Int64} {m k : Nat} {a : (Int64 → Nat) → Nat} (H : za_J st h d m k a) (hx : ¬ x = 0) : za_J st (vp_updL h m x) d (m + 1) k (fun g => a g + g x) := by
  refine ⟨fun j hj => ?_, fun g hg => ?_⟩
  · by_cases e : j = m
    · rw [e, pk_uLs]; exact hx
    · rw [pk_uLn e]; exact H.1 j (by omega)
  · have e : zs_sm (fun j => g (vp_updL h m x j)) m = zs_sm (fun j => g (h j)) m := zs_cg (fun j hj => by rw [pk_uLn (by omega)])
    rw [zs_s, e, H.2 g hg, pk_uLs]
    exact Nat.add_assoc _ _ _
theorem za_Jz {st h : Nat → Int64} {d x : Int64} {m k : Nat} {a : (Int64 → Nat) → Nat} (H : za_J st h d m k a) (hx : x = 0) : za_J st h d m k (fun g => a g + g x) :=
  ⟨H.1, fun g hg => by
    have e := H.2 g hg
    show _ = _ + (a g + g x)
    rw [hx, hg]; exact e⟩
theorem za_Jn {st h : Nat → Int64} {d : Int64} {m k : Nat} (H : za_J st h d m k (fun g => 0 + g (st k &&& d) + g (st k &&& (d ^^^ (-1))))) : za_J st h d m (k + 1) (fun _ => 0) :=
  ⟨H.1, fun g hg => by
    have e := H.2 g hg
    rw [zs_s]
    dsimp only at e ⊢
    omega⟩
theorem za_Jle {st h : Nat → Int64} {d : Int64} {m k : Nat} {a : (Int64 → Nat) → Nat} (H : za_J st h d m k a) : m ≤ zs_sm (fun i => za_P (st i)) k + a za_P := by
  have e := H.2 za_P za_P0
  have l : m ≤ zs_sm (fun j => za_P (h j)) m := zs_lo (fun j hj => za_Pp (H.1 j hj))
  have s : zs_sm (fun i => za_P (st i &&& d) + za_P (st i &&& (d ^^^ (-1)))) k = zs_sm (fun i => za_P (st i)) k := zs_cg (fun i _ => (za_Ps (st i) d).symm)
  omega
theorem za_mono (S : Nat → Bool) (w : Nat → Nat) (j n : Nat) {a : Nat} : ∀ {b : Nat}, a ≤ b → zc_ct (za_lt S w j a) n ≤ zc_ct (za_lt S w j b) n
  | 0, h => by rw [Nat.le_zero.mp h]; exact Nat.le_refl _
  | b + 1, h => by
    rcases Nat.lt_or_ge b a with h1 | h1
    · rw [show a = b + 1 by omega]; exact Nat.le_refl _
    · rw [za_step]
      exact Nat.le_trans (za_mono S w j n h1) (Nat.le_add_right _ _)
theorem za_lt0 (S : Nat → Bool) (w : Nat → Nat) (j n : Nat) : zc_ct (za_lt S w j 0) n = 0 :=
  zc_nil (fun r _ => by unfold za_lt; rw [decide_eq_false (Nat.not_lt_zero _), Bool.and_false])
theorem za_all (S : Nat → Bool) (w : Nat → Nat) (j q n : Nat) : zc_ct (za_lt S w j q) n ≤ zc_ct S n := by
  rw [zc_split S (fun r => decide (w r / 2 ^ j < q)) n]
  exact Nat.le_add_right _ _
end
section
/-! ===== the component's questions ===== -/
section
variable {pr ls qs : Int64} {nc : Int32} {sl mt tt st hv : Nat → Int64} {ks lf rg hw cn fr : Nat → Int32} {W : Nat → Nat → Nat} {S : Nat → Bool}
theorem zx_rwL {post : Int32 → SX → Prop} {v : Int64} {p : Nat} (hv' : ∀ r, r < 64 → zl_b v r = S r) (h : ∀ low, low < 64 → zc_ct S low ≤ p → p < zc_ct S (low + 1) → post (nI low) (pr, nc, ls, qs, sl, ks, lf, rg, hw, cn, mt, fr, tt, st, hv)) : ∀ (k n low rest : Nat), k ≤ 6 → k < n → low + 2 ^ k ≤ 64 → zc_ct S low + rest = p → p < zc_ct S (low + 2 ^ k) → wX_row_40 post v pr nc ls qs sl ks lf rg hw cn mt fr tt st hv n (nI low) (nI rest) (nI (2 ^ k / 2)) := by
  intro k
  induction k with
  | zero =>
    intro n low rest _ hn hlow h1 h2
    obtain ⟨n, rfl⟩ : ∃ n', n = n' + 1 := ⟨n - 1, by omega⟩
    refine br_t (by decide) (h low ?_ (by omega) h2)
    have : 2 ^ 0 = 1 := rfl
    omega
  | succ k ih =>
    intro n low rest hk hn hlow h1 h2
    obtain ⟨n, rfl⟩ : ∃ n', n = n' + 1 := ⟨n - 1, by omega⟩
    have e2 : 2 ^ (k + 1) / 2 = 2 ^ k := by rw [Nat.pow_succ]; omega
    have e3 : 2 ^ (k + 1) = 2 ^ k + 2 ^ k := by rw [Nat.pow_succ]; omega
    have e0 : 0 < 2 ^ k := Nat.two_pow_pos k
    have el := zc_le S (low + 2 ^ (k + 1))
    rw [e2]
    rw [e3] at hlow h2 el
    generalize hw2 : 2 ^ k = w at *
    refine br_f (nI_nle e0 (by omega)) (nm_e (zo_ones _ ?_))
    have en : zc_ct (zl_b (((v.toUInt64 >>> ((nI low).toInt64.toUInt64 &&& Int64.toUInt64 63)).toInt64) &&& (((1 : Int64) <<< ((nI w).toInt64 &&& 63)) - 1))) 64 = zc_ct (fun i => S (low + i)) w := by
      rw [← zc_cut (fun i => S (low + i)) (show w ≤ 64 by omega)]
      refine zc_cg (fun i hi => ?_)
      rw [zl_and, zl_ushr _ (by omega), zl_msk w (by omega) i hi]
      by_cases hiw : i < w
      · rw [hv' _ (by omega)]
      · rw [decide_eq_false hiw, Bool.and_false, Bool.and_false]
    rw [en]
    have ea := zc_add S low w
    have half : nI w / 2 = nI (w / 2) := pk_div (d := 2) (by omega) (by decide) (by decide)
    have nl := zc_le (fun i => S (low + i)) w
    refine pk_lt rest (zc_ct (fun i => S (low + i)) w) (fun hlt => ⟨by decide, nm_r half ?_⟩) (fun hge => nm_r (pk_sub hge) (nm_r (nI_add low w) ⟨by decide, nm_r half ?_⟩))
    · exact ih n low rest (by omega) (by omega) (by omega) h1 (by omega)
    · refine ih n (low + w) (rest - zc_ct (fun i => S (low + i)) w) (by omega) (by omega) (by omega) (by omega) ?_
      rw [Nat.add_assoc]
      exact h2
theorem zx_smL {post : Int32 → SX → Prop} {v : Int64} {c : Nat} (hc : c < 3) (hS : zr_SL sl W) (hv' : ∀ r, r < 64 → zl_b v r = S r) (h : post (nI (zs_sm (za_v S (fun r => W r c) 0) 64)) (pr, nc, ls, qs, sl, ks, lf, rg, hw, cn, mt, fr, tt, st, hv)) : ∀ (n j s : Nat), j ≤ 8 → j < n → s = zs_sm (za_v S (fun r => W r c) j) 64 → wX_sum_30 post (nI c) v pr nc ls qs sl ks lf rg hw cn mt fr tt st hv n (nI s) (nI j + (-1)) := by
  intro n
  induction n with
  | zero => intro j s hj hn; omega
  | succ n ih =>
    intro j s hj hn hs
    cases j with
    | zero =>
      rw [show nI 0 + (-1) = -1 from rfl]
      refine br_t (by decide) ?_
      rw [hs]; exact h
    | succ b =>
      rw [pk_m1]
      refine br_f (nI_pos (by omega)) ?_
      rw [zx_ix c b]
      refine ⟨pk_in (8 * c + b) 24 (by omega), zo_ones _ ?_⟩
      rw [nI_clamp (show 8 * c + b < 2 ^ 31 by omega)]
      have en : zc_ct (zl_b (v &&& sl (8 * c + b))) 64 = zc_ct (fun r => S r && zp_t (W r c) b) 64 := zc_cg (fun r hr => by rw [zl_and, hv' r hr, hS c hc b (by omega) r hr])
      have e1 : (2 : Int32) * nI s + nI (zc_ct (zl_b (v &&& sl (8 * c + b))) 64) = nI (zs_sm (za_v S (fun r => W r c) b) 64) := by
        rw [show (2 : Int32) * nI s = nI (2 * s) from pk_mul 2 s, nI_add, en, hs]
        exact congrArg nI (za_bit S (fun r => W r c) b 64)
      refine nm_r e1 (nm_e ?_)
      exact ih b _ (by omega) (by omega) rfl
theorem zx_sm {post : Int32 → SX → Prop} {v : Int64} {c : Nat} (hc : c < 3) (hW : ∀ r, r < 64 → W r c < 256) (hS : zr_SL sl W) (hv' : ∀ r, r < 64 → zl_b v r = S r) (h : post (nI (zs_sm (za_v S (fun r => W r c) 0) 64)) (pr, nc, ls, qs, sl, ks, lf, rg, hw, cn, mt, fr, tt, st, hv)) : ∃ n, wX_sum_30 post (nI c) v pr nc ls qs sl ks lf rg hw cn mt fr tt st hv n 0 7 :=
  ⟨9, zx_smL hc hS hv' h 9 8 0 (by omega) (by omega) (za_top (S := S) (w := fun r => W r c) hW 64 (by omega)).symm⟩
theorem zx_rkL {post : Int32 → SX → Prop} {c p : Nat} (hc : c < 3) (hW : ∀ r, r < 64 → W r c < 256) (hS : zr_SL sl W) (h : ∀ q, q < 256 → zc_ct (za_lt S (fun r => W r c) 0 q) 64 ≤ p → p < zc_ct (za_lt S (fun r => W r c) 0 (q + 1)) 64 → post (nI q) (pr, nc, ls, qs, sl, ks, lf, rg, hw, cn, mt, fr, tt, st, hv)) : ∀ (n j : Nat) (v : Int64) (rest q : Nat), j ≤ 8 → j < n → (∀ r, r < 64 → zl_b v r = za_eq S (fun r => W r c) j q r) → q * 2 ^ j < 256 → rest + zc_ct (za_lt S (fun r => W r c) j q) 64 = p → rest < zc_ct (za_eq S (fun r => W r c) j q) 64 → wX_ranked_49 post (nI c) pr nc ls qs sl ks lf rg hw cn mt fr tt st hv n v (nI rest) (nI (q * 2 ^ j)) (nI j + (-1)) := by
  intro n
  induction n with
  | zero => intro j v rest q hj hn; omega
  | succ n ih =>
    intro j v rest q hj hn hv' hq hp hr
    cases j with
    | zero =>
      rw [show nI 0 + (-1) = -1 from rfl]
      refine br_t (by decide) ?_
      rw [Nat.pow_zero, Nat.mul_one] at *
      refine h q hq (by omega) ?_
      rw [za_step]
      omega
    | succ b =>
      rw [pk_m1]
      refine br_f (nI_pos (by omega)) ?_
      rw [zx_ix c b]
      have ck : (nI (8 * c + b)).toNatClampNeg = 8 * c + b := nI_clamp (by omega)
      rw [ck]
      have hb8 : b < 8 := by omega
      have hz : ∀ r, r < 64 → zl_b (v &&& (sl (8 * c + b) ^^^ (-1))) r = za_eq S (fun r => W r c) b (2 * q) r := fun r hr => by
        rw [zl_and, zl_not _ hr, hv' r hr, hS c hc b hb8 r hr]
        unfold za_eq
        rw [za_q0, Bool.and_assoc]
      have ho : ∀ r, r < 64 → zl_b (v &&& sl (8 * c + b)) r = za_eq S (fun r => W r c) b (2 * q + 1) r := fun r hr => by
        rw [zl_and, hv' r hr, hS c hc b hb8 r hr]
        unfold za_eq
        rw [za_q1, Bool.and_assoc]
      have e1 := za_half S (fun r => W r c) b q 64
      have e2 := za_dbl S (fun r => W r c) b q 64
      have e3 := za_step S (fun r => W r c) b (2 * q) 64
      have hpw : 2 ^ (b + 1) = 2 * 2 ^ b := by rw [Nat.pow_succ, Nat.mul_comm]
      have hq2 : q * 2 ^ (b + 1) = 2 * q * 2 ^ b := by rw [hpw, ← Nat.mul_assoc, Nat.mul_comm q 2]
      have hb0 := Nat.two_pow_pos b
      have hq3 : q < 128 := by
        have : q * 2 ≤ q * 2 ^ (b + 1) := Nat.mul_le_mul_left q (by rw [hpw]; omega)
        omega
      have cz := zc_le (za_eq S (fun r => W r c) (b + 1) q) 64
      have cz2 := zc_le (za_eq S (fun r => W r c) b (2 * q)) 64
      refine ⟨pk_in (8 * c + b) 24 (by omega), nm_e (zo_ones _ ?_)⟩
      rw [zc_cg (g := za_eq S (fun r => W r c) b (2 * q)) hz]
      refine pk_le (zc_ct (za_eq S (fun r => W r c) b (2 * q)) 64) rest (fun hge => nm_r (pk_sub hge) ⟨pk_in (8 * c + b) 24 (by omega), nm_e (nm_r (za_or b hb8 q hq3 hq) (nm_e ?_))⟩) (fun hlt => nm_e ?_)
      · refine ih b _ _ (2 * q + 1) (by omega) (by omega) ho ?_ (by omega) (by omega)
        have hd : q * 2 ^ (b + 1) + 2 ^ (b + 1) ≤ 256 := by
          obtain ⟨t, ht⟩ : ∃ t, 256 = t * 2 ^ (b + 1) := ⟨2 ^ (7 - b), by rw [← Nat.pow_add, show 7 - b + (b + 1) = 8 by omega]⟩
          rw [ht] at hq
          have := Nat.lt_of_mul_lt_mul_right hq
          rw [ht, ← Nat.succ_mul]
          exact Nat.mul_le_mul_right _ this
        rw [Nat.add_mul, Nat.one_mul, ← hq2]
        omega
      · rw [hq2]
        refine ih b _ _ (2 * q) (by omega) (by omega) hz ?_ (by omega) hlt
        rw [← hq2]; exact hq
theorem zx_rk {post : Int32 → SX → Prop} {v : Int64} {c p : Nat} (hc : c < 3) (hW : ∀ r, r < 64 → W r c < 256) (hS : zr_SL sl W) (hv' : ∀ r, r < 64 → zl_b v r = S r) (hp : p < zc_ct S 64) (h : ∀ q, q < 256 → zc_ct (za_lt S (fun r => W r c) 0 q) 64 ≤ p → p < zc_ct (za_lt S (fun r => W r c) 0 (q + 1)) 64 → post (nI q) (pr, nc, ls, qs, sl, ks, lf, rg, hw, cn, mt, fr, tt, st, hv)) : ∃ n, wX_ranked_49 post (nI c) pr nc ls qs sl ks lf rg hw cn mt fr tt st hv n v (nI p) 0 7 := by
  have e0 : ∀ r, r < 64 → za_eq S (fun r => W r c) 8 0 r = S r := fun r hr => by
    unfold za_eq
    rw [Nat.div_eq_of_lt (show W r c < 2 ^ 8 from hW r hr), decide_eq_true rfl, Bool.and_true]
  refine ⟨9, zx_rkL hc hW hS h 9 8 v p 0 (by omega) (by omega) (fun r hr => ?_) (by decide) ?_ ?_⟩
  · rw [e0 r hr]; exact hv' r hr
  · rw [zc_nil (fun r hr => by unfold za_lt; rw [decide_eq_false (Nat.not_lt_zero _), Bool.and_false]), Nat.add_zero]
  · rw [zc_cg e0]; exact hp
/-! splitting the sets -/
theorem zx_spC {post : Int32 → SX → Prop} {m : Nat} (hm : m ≤ 64) (h : ∀ s : Nat → Int64, (∀ j, j < m → s j = hv j) → post (nI m) (pr, nc, ls, qs, sl, ks, lf, rg, hw, cn, mt, fr, tt, s, hv)) : ∀ (n i : Nat) (st : Nat → Int64), i ≤ m → m - i < n → (∀ j, j < i → st j = hv j) → wX_splitSets_85 post (nI m) pr nc ls qs n (nI i) sl ks lf rg hw cn mt fr tt st hv := by
  intro n
  induction n with
  | zero => intro i st hi hn; omega
  | succ n ih =>
    intro i st hi hn hs
    refine pk_le m i (fun hle => h st (fun j hj => hs j (by omega))) (fun hlt => ⟨pk_in i 64 (by omega), pk_in i 64 (by omega), nm_e (nm_r (nI_1 i) ?_)⟩)
    rw [nI_clamp (show i < 2 ^ 31 by omega)]
    refine ih (i + 1) _ (by omega) (by omega) (fun j hj => ?_)
    by_cases e : j = i
    · rw [e, pk_uLs]
    · rw [pk_uLn e]; exact hs j (by omega)
theorem zx_sp57 {post : Int32 → SX → Prop} {J : Int32 → Int32 → (Nat → Int64) → (Nat → Int32) → (Nat → Int32) → (Nat → Int32) → (Nat → Int32) → (Nat → Int32) → (Nat → Int64) → (Nat → Int32) → (Nat → Int64) → (Nat → Int64) → (Nat → Int64) → Prop} {x1 : Int32} {d z : Int64} {m k : Nat} {a : (Int64 → Nat) → Nat} (hk : k < 2 ^ 30) (hb : ¬ z = 0 → m < 64) (H : za_J st hv d m k a) (h : ∀ (m' : Nat) (hv' : Nat → Int64), za_J st hv' d m' k (fun g => a g + g z) → J (nI m') (nI (k + 1)) sl ks lf rg hw cn mt fr tt st hv') : wX_splitSets_57 post J x1 d (nI m) (nI k) z pr nc ls qs sl ks lf rg hw cn mt fr tt st hv := by
  unfold wX_splitSets_57
  refine br_c (fun hz => nm_r (nI_1 k) ?_) (fun hz => ⟨pk_in m 64 (hb hz), nm_e (nm_r (nI_1 m) (nm_r (nI_1 k) ?_))⟩)
  · exact h m hv (za_Jz H hz)
  · have := hb hz
    rw [nI_clamp (show m < 2 ^ 31 by omega)]
    exact h (m + 1) _ (za_Jp H hz)
theorem zx_spL {post : Int32 → SX → Prop} {d : Int64} {N : Nat} (hN : N ≤ 64) (hP : zs_sm (fun i => za_P (st i)) N ≤ 64) (h : ∀ (m : Nat) (s hv : Nat → Int64), m ≤ 64 → za_J st s d m N (fun _ => 0) → post (nI m) (pr, nc, ls, qs, sl, ks, lf, rg, hw, cn, mt, fr, tt, s, hv)) : ∀ (n m k : Nat) (hv : Nat → Int64), k ≤ N → N - k < n → za_J st hv d m k (fun _ => 0) → wX_splitSets_6 post (nI N) d pr nc ls qs n (nI m) (nI k) sl ks lf rg hw cn mt fr tt st hv := by
  intro n
  induction n with
  | zero => intro m k hv hk hn; omega
  | succ n ih =>
    intro m k hv hk hn H
    have hm : m ≤ 64 := by
      have a := za_Jle H
      have b := zs_mono (fun i => za_P (st i)) hk
      omega
    refine pk_le N k (fun hle => ?_) (fun hlt => ?_)
    · obtain rfl : k = N := by omega
      refine ⟨m + 1, zx_spC hm (fun s hs => h m s hv hm ?_) (m + 1) 0 st (by omega) (by omega) (fun j hj => absurd hj (Nat.not_lt_zero _))⟩
      refine ⟨fun j hj => by rw [hs j hj]; exact H.1 j hj, fun g hg => ?_⟩
      rw [← H.2 g hg]
      exact zs_cg (fun j hj => by rw [hs j hj])
    · have ck : (nI k).toNatClampNeg = k := nI_clamp (by omega)
      rw [ck]
      have bd : ∀ {h' : Nat → Int64} {m' : Nat} {a : (Int64 → Nat) → Nat}, za_J st h' d m' k a → a za_P + 1 ≤ za_P (st k) → m' < 64 := fun H' ha => by
        have a1 := za_Jle H'
        have b := zs_mono (fun i => za_P (st i)) (show k + 1 ≤ N by omega)
        rw [zs_s] at b
        omega
      have eP := za_Ps (st k) d
      refine ⟨pk_in k 64 (by omega), nm_e ⟨pk_in k 64 (by omega), nm_e (br_c (fun hz => ?_) (fun hz => ⟨pk_in m 64 ?_, nm_e (nm_r (nI_1 m) ?_)⟩))⟩⟩
      · refine zx_sp57 (a := fun g => 0 + g (st k &&& d)) (by omega) (fun hz2 => ?_) (za_Jz H hz) (fun m' hv' H' => ?_)
        · refine bd H ?_
          have := za_Pp hz2
          show 0 + 1 ≤ _
          omega
        · exact ih m' (k + 1) hv' (by omega) (by omega) (za_Jn H')
      · refine bd H ?_
        have := za_Pp hz
        show 0 + 1 ≤ _
        omega
      · have hm64 : m < 64 := by
          refine bd H ?_
          have := za_Pp hz
          show 0 + 1 ≤ _
          omega
        rw [nI_clamp (show m < 2 ^ 31 by omega)]
        refine zx_sp57 (a := fun g => 0 + g (st k &&& d)) (by omega) (fun hz2 => ?_) (za_Jp H hz) (fun m' hv' H' => ?_)
        · refine bd (za_Jp H hz) ?_
          have := za_Pp hz2
          show 0 + za_P (st k &&& d) + 1 ≤ _
          omega
        · exact ih m' (k + 1) hv' (by omega) (by omega) (za_Jn H')
theorem zx_sp {post : Int32 → SX → Prop} {d : Int64} {N : Nat} (hN : N ≤ 64) (hP : zs_sm (fun i => za_P (st i)) N ≤ 64) (h : ∀ (m : Nat) (s hv : Nat → Int64), m ≤ 64 → za_J st s d m N (fun _ => 0) → post (nI m) (pr, nc, ls, qs, sl, ks, lf, rg, hw, cn, mt, fr, tt, s, hv)) : wpX_splitSets post (pr, nc, ls, qs, sl, ks, lf, rg, hw, cn, mt, fr, tt, st, hv) (nI N) d :=
  ⟨N + 1, zx_spL hN hP h (N + 1) 0 0 hv (by omega) (by omega) (za_J0 st hv d)⟩
theorem zx_dfL {post : Int32 → SX → Prop} {c T : Nat} (hc : c < 3) (hW : ∀ r, r < 64 → W r c < 256) (hS : zr_SL sl W) (h : ∀ s hv : Nat → Int64, post (nI T) (pr, nc, ls, qs, sl, ks, lf, rg, hw, cn, mt, fr, tt, s, hv)) : ∀ (n b N : Nat) (st hv : Nat → Int64), b ≤ 8 → 8 - b < n → N ≤ 64 → (∀ j, j < N → ¬ st j = 0) → zs_sm (fun i => za_P (st i)) N ≤ 64 → zs_sm (fun i => za_F (fun r => W r c) b (st i)) N = T → wX_different_48 post (nI c) n (nI N) (nI b) pr nc ls qs sl ks lf rg hw cn mt fr tt st hv := by
  intro n
  induction n with
  | zero => intro b N st hv hb hn; omega
  | succ n ih =>
    intro b N st hv hb hn hN hne hP hF
    refine pk_le 8 b (fun hle => ?_) (fun hlt => ?_)
    · obtain rfl : b = 8 := by omega
      rw [zs_one (fun i hi => za_F8 (w := fun r => W r c) hW (hne i hi))] at hF
      rw [hF]
      exact h st hv
    · rw [zx_ix c b]
      have ck : (nI (8 * c + b)).toNatClampNeg = 8 * c + b := nI_clamp (by omega)
      rw [ck]
      refine ⟨pk_in (8 * c + b) 24 (by omega), zx_sp hN hP (fun m s hv' hm H => ?_)⟩
      refine nm_r (nI_1 b) ?_
      refine ih (b + 1) m s hv' (by omega) (by omega) hm H.1 ?_ ?_
      · have e := H.2 za_P za_P0
        have e2 : zs_sm (fun i => za_P (st i &&& sl (8 * c + b)) + za_P (st i &&& (sl (8 * c + b) ^^^ (-1)))) N = zs_sm (fun i => za_P (st i)) N := zs_cg (fun i _ => (za_Ps (st i) _).symm)
        dsimp only at e
        omega
      · have e := H.2 (za_F (fun r => W r c) (b + 1)) (za_F0 _ _)
        have e2 : zs_sm (fun i => za_F (fun r => W r c) (b + 1) (st i &&& sl (8 * c + b)) + za_F (fun r => W r c) (b + 1) (st i &&& (sl (8 * c + b) ^^^ (-1)))) N = zs_sm (fun i => za_F (fun r => W r c) b (st i)) N := zs_cg (fun i _ => (za_Fs hlt (fun r hr => hS c hc b hlt r hr) (st i)).symm)
        dsimp only at e
        omega
end
end
section
/-! ===== the reference's walks ===== -/
theorem zy_b1 {post : Int32 → Prop} {c : Prop} {b : Bool} (e : b = true ↔ c) (h : post (zb_i b)) : (c → post 1) ∧ (¬ c → post 0) := by
  cases b
  · exact ⟨fun z => absurd (e.mpr z) (by decide), fun _ => h⟩
  · exact ⟨fun _ => h, fun z => absurd (e.mp rfl) z⟩
theorem zy_b0 {post : Int32 → Prop} {c : Prop} {b : Bool} (e : b = false ↔ c) (h : post (zb_i b)) : (c → post 0) ∧ (¬ c → post 1) := by
  cases b
  · exact ⟨fun _ => h, fun z => absurd (e.mp rfl) z⟩
  · exact ⟨fun z => absurd (e.mpr z) (by decide), fun _ => h⟩
theorem zy_cp {post : Int32 → Prop} (x k y : Int32) (h : post (zb_i (zq_ch k (decide (x < y)) (decide (x = y))))) : wpY_compared post x k y := by
  have o1 : x < y ↔ x.toInt < y.toInt := Int32.lt_iff_toInt_lt
  have o2 : y < x ↔ y.toInt < x.toInt := Int32.lt_iff_toInt_lt
  have o3 : x ≤ y ↔ x.toInt ≤ y.toInt := Int32.le_iff_toInt_le
  have o4 : y ≤ x ↔ y.toInt ≤ x.toInt := Int32.le_iff_toInt_le
  have o5 : x = y ↔ x.toInt = y.toInt := Int32.toInt_inj.symm
  unfold zq_ch at h
  by_cases h0 : k = 0
  · rw [if_pos h0] at h
    exact br_t h0 (zy_b1 (by rw [decide_eq_true_eq]) h)
  · refine br_f h0 ?_
    rw [if_neg h0] at h
    by_cases h1 : k = 1
    · rw [if_pos h1] at h
      refine br_t h1 (zy_b0 (b := decide (x < y)) ?_ h)
      rw [decide_eq_false_iff_not, o1, o4]; omega
    · refine br_f h1 ?_
      rw [if_neg h1] at h
      by_cases h2 : k = 2
      · rw [if_pos h2] at h
        refine br_t h2 (zy_b0 (b := decide (x < y) || decide (x = y)) ?_ h)
        rw [Bool.or_eq_false_iff, decide_eq_false_iff_not, decide_eq_false_iff_not, o1, o2, o5]; omega
      · refine br_f h2 ?_
        rw [if_neg h2] at h
        by_cases h3 : k = 3
        · rw [if_pos h3] at h
          refine br_t h3 (zy_b0 (b := !decide (x = y)) ?_ h)
          rw [Bool.not_eq_false', decide_eq_true_eq]
        · refine br_f h3 ?_
          rw [if_neg h3] at h
          by_cases h4 : k = 4
          · rw [if_pos h4] at h
            refine br_t h4 (zy_b0 (b := !decide (x < y)) ?_ h)
            rw [Bool.not_eq_false', decide_eq_true_eq]
          · rw [if_neg h4] at h
            refine br_f h4 (zy_b0 (b := !(decide (x < y) || decide (x = y))) ?_ h)
            rw [Bool.not_eq_false', Bool.or_eq_true, decide_eq_true_eq, decide_eq_true_eq, o1, o3, o5]; omega
theorem zy_jn {post : Int32 → Prop} (a b : Bool) (k : Int32) (h : post (zb_i (zq_jn k a b))) : wpY_joined post (zb_i a) k (zb_i b) := by
  unfold zq_jn at h
  by_cases h0 : k = 0
  · rw [if_pos h0] at h
    refine br_t h0 ?_
    cases a
    · exact br_t rfl h
    · refine br_f (by decide) ?_
      cases b
      · exact br_t rfl h
      · exact br_f (by decide) h
  · refine br_f h0 ?_
    rw [if_neg h0] at h
    by_cases h1 : k = 1
    · rw [if_pos h1] at h
      refine br_t h1 ?_
      cases a
      · refine br_t rfl ?_
        cases b
        · exact br_t rfl h
        · exact br_f (by decide) h
      · exact br_f (by decide) h
    · refine br_f h1 ?_
      rw [if_neg h1] at h
      by_cases h2 : k = 2
      · rw [if_pos h2] at h
        refine br_t h2 ?_
        cases a <;> cases b
        · exact br_t rfl h
        · exact br_f (by decide) h
        · exact br_f (by decide) h
        · exact br_t rfl h
      · refine br_f h2 ?_
        rw [if_neg h2] at h
        cases a
        · exact br_t rfl h
        · refine br_f (by decide) ?_
          cases b
          · exact br_t rfl h
          · exact br_f (by decide) h
theorem zy_cc {x : Nat} (hx : x < 2 ^ 31) (h k : Int32) : zq_ch h (decide (nI x < k)) (decide (nI x = k)) = zq_cc x h k := by
  have e1 : decide (nI x < k) = decide ((x : Int) < k.toInt) := by
    rw [Bool.eq_iff_iff, decide_eq_true_eq, decide_eq_true_eq, Int32.lt_iff_toInt_lt, nI_toInt hx]
  have e2 : decide (nI x = k) = decide ((x : Int) = k.toInt) := by
    rw [Bool.eq_iff_iff, decide_eq_true_eq, decide_eq_true_eq, ← Int32.toInt_inj, nI_toInt hx]
  rw [e1, e2]; rfl
theorem zy_c2 {x y : Nat} (hx : x < 2 ^ 31) (hy : y < 2 ^ 31) (h : Int32) : zq_ch h (decide (nI x < nI y)) (decide (nI x = nI y)) = zq_ch h (decide (x < y)) (decide (x = y)) := by
  have e1 : decide (nI x < nI y) = decide (x < y) := by
    rw [Bool.eq_iff_iff, decide_eq_true_eq, decide_eq_true_eq, nI_ltI hx hy]
  have e2 : decide (nI x = nI y) = decide (x = y) := by
    rw [Bool.eq_iff_iff, decide_eq_true_eq, decide_eq_true_eq, nI_eq hx hy]
  rw [e1, e2]
section
variable {nc : Int32} {th va my ks lf rg hw cn : Nat → Int32} {W : Nat → Nat → Nat}
/-- one turn of the loop over the conditions -/
theorem zy_153 {post : Int32 → SY → Prop} {J : Int32 → (Nat → Int32) → (Nat → Int32) → (Nat → Int32) → (Nat → Int32) → (Nat → Int32) → (Nat → Int32) → (Nat → Int32) → (Nat → Int32) → Prop} {x1 x2 : Int32} {i : Nat} (hi : i < 16) (hk : ¬ ks i = 3) (h : J (nI (i + 1)) th va ks lf rg hw cn my) : wY_meets_153 post J x1 x2 (nI i) nc th va ks lf rg hw cn my := by
  unfold wY_meets_153
  have ck : (nI i).toNatClampNeg = i := nI_clamp (by omega)
  rw [ck]
  exact ⟨pk_in i 16 hi, br_f hk (nm_r (nI_1 i) h)⟩
theorem zy_153j {post : Int32 → SY → Prop} {J : Int32 → (Nat → Int32) → (Nat → Int32) → (Nat → Int32) → (Nat → Int32) → (Nat → Int32) → (Nat → Int32) → (Nat → Int32) → (Nat → Int32) → Prop} {x1 x2 : Int32} {i a b : Nat} {p q : Bool} (hi : i < 16) (hk : ks i = 3) (ha : a < 16) (hb : b < 16) (ea : lf i = nI a) (eb : rg i = nI b) (hp : my a = zb_i p) (hq : my b = zb_i q) (h : J (nI (i + 1)) th va ks lf rg hw cn (upd my i (zb_i (zq_jn (hw i) p q)))) : wY_meets_153 post J x1 x2 (nI i) nc th va ks lf rg hw cn my := by
  unfold wY_meets_153
  have ck : (nI i).toNatClampNeg = i := nI_clamp (by omega)
  have ca : (nI a).toNatClampNeg = a := nI_clamp (by omega)
  have cb : (nI b).toNatClampNeg = b := nI_clamp (by omega)
  have pin : vp_in (nI i) 16 := pk_in i 16 hi
  rw [ck, ea, eb, ca, cb, hp, hq]
  refine ⟨pin, br_t hk ⟨pin, pk_in a 16 ha, pin, pin, pk_in b 16 hb, zy_jn p q (hw i) ⟨pin, ?_⟩⟩⟩
  rw [zb_n]
  exact nm_e (nm_r (nI_1 i) h)
theorem zy_117 {post : Int32 → SY → Prop} {J : Int32 → (Nat → Int32) → (Nat → Int32) → (Nat → Int32) → (Nat → Int32) → (Nat → Int32) → (Nat → Int32) → (Nat → Int32) → (Nat → Int32) → Prop} {x1 x2 x4 x5 : Int32} {i : Nat} (hi : i < 16) (hk : ¬ ks i = 2) (h : wY_meets_153 post J x1 x2 (nI i) nc th va ks lf rg hw cn my) : wY_meets_117 post J x1 x2 (nI i) x4 x5 nc th va ks lf rg hw cn my := by
  unfold wY_meets_117
  have ck : (nI i).toNatClampNeg = i := nI_clamp (by omega)
  rw [ck]
  exact ⟨pk_in i 16 hi, br_f hk h⟩
theorem zy_117j {post : Int32 → SY → Prop} {J : Int32 → (Nat → Int32) → (Nat → Int32) → (Nat → Int32) → (Nat → Int32) → (Nat → Int32) → (Nat → Int32) → (Nat → Int32) → (Nat → Int32) → Prop} {x1 x2 : Int32} {x y i : Nat} (hi : i < 16) (hk : ks i = 2) (hx : x < 256) (hy : y < 256) (h : J (nI (i + 1)) th va ks lf rg hw cn (upd my i (zb_i (zq_cc (x + y) (hw i) (cn i))))) : wY_meets_117 post J x1 x2 (nI i) (nI x) (nI y) nc th va ks lf rg hw cn my := by
  unfold wY_meets_117
  have ck : (nI i).toNatClampNeg = i := nI_clamp (by omega)
  have pin : vp_in (nI i) 16 := pk_in i 16 hi
  rw [ck, nI_add]
  refine ⟨pin, br_t hk ⟨pin, pin, zy_cp _ _ _ ⟨pin, ?_⟩⟩⟩
  rw [zb_n, zy_cc (by omega)]
  exact nm_e (zy_153 hi (by rw [hk]; decide) h)
theorem zy_88 {post : Int32 → SY → Prop} {J : Int32 → (Nat → Int32) → (Nat → Int32) → (Nat → Int32) → (Nat → Int32) → (Nat → Int32) → (Nat → Int32) → (Nat → Int32) → (Nat → Int32) → Prop} {x1 x2 x4 x5 : Int32} {i : Nat} (hi : i < 16) (hk : ¬ ks i = 1) (h : wY_meets_117 post J x1 x2 (nI i) x4 x5 nc th va ks lf rg hw cn my) : wY_meets_88 post J x1 x2 (nI i) x4 x5 nc th va ks lf rg hw cn my := by
  unfold wY_meets_88
  have ck : (nI i).toNatClampNeg = i := nI_clamp (by omega)
  rw [ck]
  exact ⟨pk_in i 16 hi, br_f hk h⟩
theorem zy_88j {post : Int32 → SY → Prop} {J : Int32 → (Nat → Int32) → (Nat → Int32) → (Nat → Int32) → (Nat → Int32) → (Nat → Int32) → (Nat → Int32) → (Nat → Int32) → (Nat → Int32) → Prop} {x1 x2 : Int32} {x y i : Nat} (hi : i < 16) (hk : ks i = 1) (hx : x < 256) (hy : y < 256) (h : J (nI (i + 1)) th va ks lf rg hw cn (upd my i (zb_i (zq_ch (hw i) (decide (x < y)) (decide (x = y)))))) : wY_meets_88 post J x1 x2 (nI i) (nI x) (nI y) nc th va ks lf rg hw cn my := by
  unfold wY_meets_88
  have ck : (nI i).toNatClampNeg = i := nI_clamp (by omega)
  have pin : vp_in (nI i) 16 := pk_in i 16 hi
  rw [ck]
  refine ⟨pin, br_t hk ⟨pin, zy_cp _ _ _ ⟨pin, ?_⟩⟩⟩
  rw [zb_n, zy_c2 (by omega) (by omega)]
  exact nm_e (zy_117 hi (by rw [hk]; decide) (zy_153 hi (by rw [hk]; decide) h))
theorem zy_rem {r a : Nat} (ha : a < 16) : (3 : Int32) * nI r + (nI a - nI a / 3 * 3) = nI (3 * r + a % 3) := by
  rw [show nI a - nI a / 3 * 3 = nI (a % 3) from pk_rem (d := 3) (by omega) (by decide) (by decide), zx_iy]
theorem zy_mtL {post : Int32 → SY → Prop} {m r c : Nat} (hm : m ≤ 16) (hr : r < 64) (hc : c < m) (hV : zr_VA va W) (hok : ∀ i, i < m → zm_ok ks lf rg i) (h : ∀ my : Nat → Int32, post (zb_i (zm_M ks lf rg hw cn (W r) c)) (nc, th, va, ks, lf, rg, hw, cn, my)) : ∀ (n i : Nat) (my : Nat → Int32), i ≤ c + 1 → c + 1 - i < n → (∀ j, j < i → my j = zb_i (zm_M ks lf rg hw cn (W r) j)) → wY_meets_13 post (nI r) (nI c) nc n (nI i) th va ks lf rg hw cn my := by
  intro n
  induction n with
  | zero => intro i my hi hn; omega
  | succ n ih =>
    intro i my hi hn hmy
    refine pk_lt c i (fun hlt => br_f (nI_pos (by omega)) ⟨pk_in c 16 (by omega), ?_⟩) (fun hle => ?_)
    · rw [nI_clamp (show c < 2 ^ 31 by omega), hmy c (by omega)]
      exact zy_b0 (post := fun r => post r (nc, th, va, ks, lf, rg, hw, cn, my)) (zb_0 _).symm (h my)
    · have ck : (nI i).toNatClampNeg = i := nI_clamp (by omega)
      have pin : vp_in (nI i) 16 := pk_in i 16 (by omega)
      have hi16 : i < 16 := by omega
      have nxt : ∀ b : Bool, b = zm_M ks lf rg hw cn (W r) i → wY_meets_13 post (nI r) (nI c) nc n (nI (i + 1)) th va ks lf rg hw cn (upd my i (zb_i b)) := fun b eb => by
        refine ih (i + 1) _ (by omega) (by omega) (fun j hj => ?_)
        by_cases e : j = i
        · rw [e, pk_us, eb]
        · rw [pk_un e]; exact hmy j (by omega)
      have idx : ∀ a, a < 16 → vp_in (nI (3 * r + a % 3)) 192 ∧ (nI (3 * r + a % 3)).toNatClampNeg = 3 * r + a % 3 ∧ W r (a % 3) < 256 ∧ va (3 * r + a % 3) = nI (W r (a % 3)) := fun a ha => by
        have h3 : a % 3 < 3 := Nat.mod_lt _ (by decide)
        exact ⟨pk_in (3 * r + a % 3) 192 (by omega), nI_clamp (by omega), hV r hr _ h3⟩
      have h30 : ¬ (3 : Int32) = 0 := by decide
      rw [ck]
      have ho := hok i (by omega)
      obtain ⟨a, b, ha, hb, ea, eb⟩ : ∃ a b : Nat, a < 16 ∧ b < 16 ∧ lf i = nI a ∧ rg i = nI b := by
        rcases ho with ⟨_, a, b, ha, hb, ea, eb⟩ | ⟨_, a, b, ha, hb, ea, eb⟩
        · exact ⟨a, b, by omega, by omega, ea, eb⟩
        · exact ⟨a, b, by omega, by omega, ea, eb⟩
      obtain ⟨a1, a2, a3, a4⟩ := idx a ha
      obtain ⟨b1, b2, b3, b4⟩ := idx b hb
      have ea' := zy_rem (r := r) ha
      have eb' := zy_rem (r := r) hb
      have na : nI a = nI a := rfl
      rw [ea, eb, ea', eb', a2, b2, a4, b4]
      refine ⟨pin, h30, a1, nm_e ⟨pin, h30, b1, nm_e ⟨pin, ?_⟩⟩⟩
      rcases ho with ⟨h3, a0, b0, ha0, hb0, ea0, eb0⟩ | ⟨hks, a0, b0, ha0, hb0, ea0, eb0⟩
      · refine br_f (by rw [h3]; decide) (zy_88 hi16 (by rw [h3]; decide) (zy_117 hi16 (by rw [h3]; decide) ?_))
        refine zy_153j hi16 h3 (by omega) (by omega) ea0 eb0 (hmy a0 ha0) (hmy b0 hb0) (nxt _ ?_)
        rw [zm_join h3 hi16 ha0 hb0 ea0 eb0]
      · have eqa : a = a0 := by
          have z := ea.symm.trans ea0
          rwa [nI_eq (by omega) (by omega)] at z
        have eqb : b = b0 := by
          have z := eb.symm.trans eb0
          rwa [nI_eq (by omega) (by omega)] at z
        subst eqa eqb
        have ma : a % 3 = a := Nat.mod_eq_of_lt ha0
        have mb : b % 3 = b := Nat.mod_eq_of_lt hb0
        rw [ma] at a3 ⊢
        rw [mb] at b3 ⊢
        rcases hks with h0 | h1 | h2
        · refine br_t h0 ⟨pin, pin, zy_cp _ _ _ ⟨pin, ?_⟩⟩
          rw [zb_n, zy_cc (by omega)]
          refine nm_e (zy_88 hi16 (by rw [h0]; decide) (zy_117 hi16 (by rw [h0]; decide) (zy_153 hi16 (by rw [h0]; decide) (nxt _ ?_))))
          rw [zm_cmp h0 ha0 ea0]
        · refine br_f (by rw [h1]; decide) (zy_88j hi16 h1 a3 b3 (nxt _ ?_))
          rw [zm_col h1 ha0 hb0 ea0 eb0]
        · refine br_f (by rw [h2]; decide) (zy_88 hi16 (by rw [h2]; decide) (zy_117j hi16 h2 a3 b3 (nxt _ ?_)))
          rw [zm_sum h2 ha0 hb0 ea0 eb0]
theorem zy_mt {post : Int32 → SY → Prop} {pr : Int64} {m r : Nat} {c : Int32} (hm : m ≤ 16) (hr : r < 64) (hc : c = -1 ∨ ∃ i, i < m ∧ c = nI i) (hT : ∀ r, r < 64 → th r = zb_i (zl_b pr r)) (hV : zr_VA va W) (hok : ∀ i, i < m → zm_ok ks lf rg i) (h : ∀ my : Nat → Int32, post (zb_i (zm_S pr ks lf rg hw cn W c r)) (nc, th, va, ks, lf, rg, hw, cn, my)) : wpY_meets post (nc, th, va, ks, lf, rg, hw, cn, my) (nI r) c := by
  unfold wpY_meets
  dsimp only
  have ck : (nI r).toNatClampNeg = r := nI_clamp (by omega)
  rw [ck, hT r hr]
  refine ⟨pk_in r 64 hr, ?_⟩
  unfold zm_S at h
  cases e : zl_b pr r
  · rw [e] at h
    exact br_t rfl (h my)
  · rw [e] at h
    refine br_f (by decide) ?_
    rcases hc with rfl | ⟨i, hi, rfl⟩
    · exact ⟨1, br_t (by decide) (br_t (by decide) (h my))⟩
    · refine ⟨i + 2, zy_mtL (W := W) hm hr hi hV hok (fun my => ?_) (i + 2) 0 my (by omega) (by omega) (fun j hj => absurd hj (Nat.not_lt_zero _))⟩
      have k := h my
      rw [nI_clamp (show i < 2 ^ 31 by omega), decide_eq_false (nI_pos (by omega)), Bool.false_or, Bool.true_and] at k
      exact k
end
end
section
/-! ===== the reference's questions, over what meets answers ===== -/
section
variable {nc : Int32} {th va my ks lf rg hw cn : Nat → Int32} {W : Nat → Nat → Nat} {S : Nat → Bool} {c : Int32}
def zy_H (c : Int32) (S : Nat → Bool) (nc : Int32) (th va ks lf rg hw cn : Nat → Int32) : Prop :=
  ∀ (post : Int32 → SY → Prop) (my : Nat → Int32) (r : Nat), r < 64 → (∀ my : Nat → Int32, post (zb_i (S r)) (nc, th, va, ks, lf, rg, hw, cn, my)) → wpY_meets post (nc, th, va, ks, lf, rg, hw, cn, my) (nI r) c
theorem zy_ctL {post : Int32 → SY → Prop} (H : zy_H c S nc th va ks lf rg hw cn) (h : ∀ my : Nat → Int32, post (nI (zc_ct S 64)) (nc, th, va, ks, lf, rg, hw, cn, my)) : ∀ (n i : Nat) (my : Nat → Int32), i ≤ 64 → 64 - i < n → wY_count_14 post c n (nI (zc_ct S i)) (nI i) nc th va ks lf rg hw cn my := by
  intro n
  induction n with
  | zero => intro i my hi hn; omega
  | succ n ih =>
    intro i my hi hn
    refine pk_le 64 i (fun hle => ?_) (fun hlt => ?_)
    · obtain rfl : i = 64 := by omega
      exact h my
    · refine H _ my i hlt (fun my => ?_)
      have e1 := zc_s S i
      cases e : S i
      · rw [e] at e1
        refine br_t rfl (nm_r (nI_1 i) ?_)
        have k := ih (i + 1) my (by omega) (by omega)
        rw [e1] at k
        exact k
      · rw [e] at e1
        refine br_f (by decide) (nm_r (nI_1 _) (nm_r (nI_1 i) ?_))
        have k := ih (i + 1) my (by omega) (by omega)
        rw [e1] at k
        exact k
theorem zy_ct {post : Int32 → SY → Prop} (H : zy_H c S nc th va ks lf rg hw cn) (h : ∀ my : Nat → Int32, post (nI (zc_ct S 64)) (nc, th, va, ks, lf, rg, hw, cn, my)) : ∃ n, wY_count_14 post c n 0 0 nc th va ks lf rg hw cn my :=
  ⟨65, zy_ctL H h 65 0 my (by omega) (by omega)⟩
theorem zy_rwL {post : Int32 → SY → Prop} {p low : Nat} (H : zy_H c S nc th va ks lf rg hw cn) (hl : low < 64) (h1 : zc_ct S low ≤ p) (h2 : p < zc_ct S (low + 1)) (h : ∀ my : Nat → Int32, post (nI low) (nc, th, va, ks, lf, rg, hw, cn, my)) : ∀ (n i : Nat) (my : Nat → Int32), i ≤ low → low - i < n → wY_row_15 post c (nI p) n (nI (zc_ct S i)) (nI i) nc th va ks lf rg hw cn my := by
  have hp : p < 2 ^ 31 := by
    have := zc_le S (low + 1)
    omega
  intro n
  induction n with
  | zero => intro i my hi hn; omega
  | succ n ih =>
    intro i my hi hn
    have hci : zc_ct S i < 2 ^ 31 := by
      have := zc_le S i
      omega
    refine pk_le 64 i (fun hle => by omega) (fun hlt => ?_)
    refine H _ my i hlt (fun my => ?_)
    have e1 := zc_s S i
    rcases Nat.lt_or_ge i low with hil | hil
    · have hmo := zc_mono S (show i + 1 ≤ low by omega)
      cases e : S i
      · rw [e] at e1
        refine br_t rfl (nm_r (nI_1 i) ?_)
        have k := ih (i + 1) my (by omega) (by omega)
        rw [e1] at k
        exact k
      · rw [e] at e1
        have e1' : zc_ct S (i + 1) = zc_ct S i + 1 := e1
        refine br_f (by decide) (br_f ?_ (nm_r (nI_1 _) (nm_r (nI_1 i) ?_)))
        · rw [nI_eq hci hp]
          omega
        · have k := ih (i + 1) my (by omega) (by omega)
          rw [e1] at k
          exact k
    · obtain rfl : i = low := by omega
      cases e : S i
      · rw [e] at e1
        have e1' : zc_ct S (i + 1) = zc_ct S i := e1
        omega
      · rw [e] at e1
        have e1' : zc_ct S (i + 1) = zc_ct S i + 1 := e1
        refine br_f (by decide) (br_t ?_ (h my))
        rw [nI_eq hci hp]
        omega
theorem zy_rw {post : Int32 → SY → Prop} {p low : Nat} (H : zy_H c S nc th va ks lf rg hw cn) (hl : low < 64) (h1 : zc_ct S low ≤ p) (h2 : p < zc_ct S (low + 1)) (h : ∀ my : Nat → Int32, post (nI low) (nc, th, va, ks, lf, rg, hw, cn, my)) : ∃ n, wY_row_15 post c (nI p) n 0 0 nc th va ks lf rg hw cn my :=
  ⟨low + 1, zy_rwL H hl h1 h2 h (low + 1) 0 my (by omega) (by omega)⟩
theorem zy_rnL {post : Int32 → SY → Prop} {p : Int32} (H : zy_H c S nc th va ks lf rg hw cn) (hp : ∀ i, i < zc_ct S 64 → ¬ nI i = p) (h : ∀ my : Nat → Int32, post (-1) (nc, th, va, ks, lf, rg, hw, cn, my)) : ∀ (n i : Nat) (my : Nat → Int32), i ≤ 64 → 64 - i < n → wY_row_15 post c p n (nI (zc_ct S i)) (nI i) nc th va ks lf rg hw cn my := by
  intro n
  induction n with
  | zero => intro i my hi hn; omega
  | succ n ih =>
    intro i my hi hn
    refine pk_le 64 i (fun hle => h my) (fun hlt => ?_)
    refine H _ my i hlt (fun my => ?_)
    have e1 := zc_s S i
    have hmo := zc_mono S (show i + 1 ≤ 64 by omega)
    cases e : S i
    · rw [e] at e1
      refine br_t rfl (nm_r (nI_1 i) ?_)
      have k := ih (i + 1) my (by omega) (by omega)
      rw [e1] at k
      exact k
    · rw [e] at e1
      have e1' : zc_ct S (i + 1) = zc_ct S i + 1 := e1
      refine br_f (by decide) (br_f (hp _ (by omega)) (nm_r (nI_1 _) (nm_r (nI_1 i) ?_)))
      have k := ih (i + 1) my (by omega) (by omega)
      rw [e1] at k
      exact k
theorem zy_rn {post : Int32 → SY → Prop} {p : Int32} (H : zy_H c S nc th va ks lf rg hw cn) (hp : ∀ i, i < zc_ct S 64 → ¬ nI i = p) (h : ∀ my : Nat → Int32, post (-1) (nc, th, va, ks, lf, rg, hw, cn, my)) : ∃ n, wY_row_15 post c p n 0 0 nc th va ks lf rg hw cn my :=
  ⟨65, zy_rnL H hp h 65 0 my (by omega) (by omega)⟩
theorem zy_smL {post : Int32 → SY → Prop} {k : Nat} (hk : k < 3) (hV : zr_VA va W) (H : zy_H c S nc th va ks lf rg hw cn) (h : ∀ my : Nat → Int32, post (nI (zs_sm (za_v S (fun r => W r k) 0) 64)) (nc, th, va, ks, lf, rg, hw, cn, my)) : ∀ (n i : Nat) (my : Nat → Int32), i ≤ 64 → 64 - i < n → wY_sum_22 post c (nI k) n (nI (zs_sm (za_v S (fun r => W r k) 0) i)) (nI i) nc th va ks lf rg hw cn my := by
  intro n
  induction n with
  | zero => intro i my hi hn; omega
  | succ n ih =>
    intro i my hi hn
    refine pk_le 64 i (fun hle => ?_) (fun hlt => ?_)
    · obtain rfl : i = 64 := by omega
      exact h my
    · refine H _ my i hlt (fun my => ?_)
      have kk := ih (i + 1) my (by omega) (by omega)
      rw [zs_s] at kk
      unfold za_v at kk ⊢
      cases e : S i
      · simp only [e, Bool.false_eq_true, if_false, Nat.add_zero] at kk
        exact br_t rfl (nm_r (nI_1 i) kk)
      · simp only [e, if_true] at kk
        refine br_f (by decide) ?_
        rw [zx_iy i k]
        have ck : (nI (3 * i + k)).toNatClampNeg = 3 * i + k := nI_clamp (by omega)
        rw [ck, (hV i hlt k hk).2]
        refine ⟨pk_in (3 * i + k) 192 (by omega), nm_r (nI_add _ _) (nm_r (nI_1 i) ?_)⟩
        rw [show W i k / 2 ^ 0 = W i k from Nat.div_one _] at kk
        exact kk
theorem zy_sm {post : Int32 → SY → Prop} {k : Nat} (hk : k < 3) (hV : zr_VA va W) (H : zy_H c S nc th va ks lf rg hw cn) (h : ∀ my : Nat → Int32, post (nI (zs_sm (za_v S (fun r => W r k) 0) 64)) (nc, th, va, ks, lf, rg, hw, cn, my)) : ∃ n, wY_sum_22 post c (nI k) n 0 0 nc th va ks lf rg hw cn my :=
  ⟨65, zy_smL hk hV H h 65 0 my (by omega) (by omega)⟩
theorem zy_hvL {post : Int32 → SY → Prop} {k v : Nat} (hk : k < 3) (hv : v < 256) (hV : zr_VA va W) (H : zy_H c S nc th va ks lf rg hw cn) (h : ∀ my : Nat → Int32, post (nI (zc_ct (za_eq S (fun r => W r k) 0 v) 64)) (nc, th, va, ks, lf, rg, hw, cn, my)) : ∀ (n i : Nat) (my : Nat → Int32), i ≤ 64 → 64 - i < n → wY_having_6 post c (nI k) (nI v) n (nI (zc_ct (za_eq S (fun r => W r k) 0 v) i)) (nI i) nc th va ks lf rg hw cn my := by
  intro n
  induction n with
  | zero => intro i my hi hn; omega
  | succ n ih =>
    intro i my hi hn
    refine pk_le 64 i (fun hle => ?_) (fun hlt => ?_)
    · obtain rfl : i = 64 := by omega
      exact h my
    · rw [zx_iy i k]
      have ck : (nI (3 * i + k)).toNatClampNeg = 3 * i + k := nI_clamp (by omega)
      obtain ⟨w1, w2⟩ := hV i hlt k hk
      rw [ck, w2]
      have e1 := zc_s (za_eq S (fun r => W r k) 0 v) i
      have e0 : za_eq S (fun r => W r k) 0 v i = (S i && decide (W i k = v)) := by
        unfold za_eq
        rw [Nat.pow_zero, Nat.div_one]
      refine ⟨pk_in (3 * i + k) 192 (by omega), pk_eq (W i k) v (fun heq => ?_) (fun hne => nm_r (nI_1 i) ?_)⟩
      · rw [decide_eq_true heq, Bool.and_true] at e0
        rw [e0] at e1
        refine H _ my i hlt (fun my => ?_)
        have kk := ih (i + 1) my (by omega) (by omega)
        rw [e1] at kk
        cases e : S i
        · rw [e] at kk
          exact br_t rfl (nm_r (nI_1 i) kk)
        · rw [e] at kk
          exact br_f (by decide) (nm_r (nI_1 _) (nm_r (nI_1 i) kk))
      · rw [decide_eq_false hne, Bool.and_false] at e0
        rw [e0] at e1
        have kk := ih (i + 1) my (by omega) (by omega)
        rw [e1] at kk
        exact kk
theorem zy_hv {post : Int32 → SY → Prop} {k v : Nat} (hk : k < 3) (hv : v < 256) (hV : zr_VA va W) (H : zy_H c S nc th va ks lf rg hw cn) (h : ∀ my : Nat → Int32, post (nI (zc_ct (za_eq S (fun r => W r k) 0 v) 64)) (nc, th, va, ks, lf, rg, hw, cn, my)) : wpY_having post (nc, th, va, ks, lf, rg, hw, cn, my) c (nI k) (nI v) :=
  ⟨65, zy_hvL hk hv hV H h 65 0 my (by omega) (by omega)⟩
theorem zy_rkL {post : Int32 → SY → Prop} {k p q : Nat} (hk : k < 3) (hp : p < 2 ^ 31) (hq : q < 256) (hV : zr_VA va W) (H : zy_H c S nc th va ks lf rg hw cn) (h1 : zc_ct (za_lt S (fun r => W r k) 0 q) 64 ≤ p) (h2 : p < zc_ct (za_lt S (fun r => W r k) 0 (q + 1)) 64) (h : ∀ my : Nat → Int32, post (nI q) (nc, th, va, ks, lf, rg, hw, cn, my)) : ∀ (n v : Nat) (my : Nat → Int32), v ≤ q → q - v < n → wY_ranked_27 post c (nI k) (nI p) n (nI (zc_ct (za_lt S (fun r => W r k) 0 v) 64)) (nI v) nc th va ks lf rg hw cn my := by
  intro n
  induction n with
  | zero => intro v my hi hn; omega
  | succ n ih =>
    intro v my hi hn
    refine pk_le 256 v (fun hle => by omega) (fun hlt => ?_)
    refine zy_hv (W := W) hk hlt hV H (fun my => ?_)
    have e1 := za_step S (fun r => W r k) 0 v 64
    have l1 := zc_le (za_lt S (fun r => W r k) 0 (v + 1)) 64
    refine nm_r (e' := nI (zc_ct (za_lt S (fun r => W r k) 0 (v + 1)) 64)) (by rw [nI_add, e1]) ?_
    refine pk_le (zc_ct (za_lt S (fun r => W r k) 0 (v + 1)) 64) p (fun hle => nm_r (nI_1 v) ?_) (fun hgt => ?_)
    · have hvq : v ≠ q := fun e => by
        subst e
        omega
      exact ih (v + 1) my (by omega) (by omega)
    · have hvq : v = q := by
        rcases Nat.lt_or_ge v q with hl | hl
        · have mono : zc_ct (za_lt S (fun r => W r k) 0 (v + 1)) 64 ≤ zc_ct (za_lt S (fun r => W r k) 0 q) 64 := za_mono S (fun r => W r k) 0 64 hl
          omega
        · omega
      rw [hvq]
      exact h my
theorem zy_rk {post : Int32 → SY → Prop} {k p q : Nat} (hk : k < 3) (hp : p < 2 ^ 31) (hq : q < 256) (hV : zr_VA va W) (H : zy_H c S nc th va ks lf rg hw cn) (h1 : zc_ct (za_lt S (fun r => W r k) 0 q) 64 ≤ p) (h2 : p < zc_ct (za_lt S (fun r => W r k) 0 (q + 1)) 64) (h : ∀ my : Nat → Int32, post (nI q) (nc, th, va, ks, lf, rg, hw, cn, my)) : ∃ n, wY_ranked_27 post c (nI k) (nI p) n 0 0 nc th va ks lf rg hw cn my := by
  refine ⟨q + 1, ?_⟩
  have k0 := zy_rkL hk hp hq hV H h1 h2 h (q + 1) 0 my (by omega) (by omega)
  rw [za_lt0] at k0
  exact k0
theorem zy_rkN {post : Int32 → SY → Prop} {k p : Nat} (hk : k < 3) (hp : p < 2 ^ 31) (hV : zr_VA va W) (H : zy_H c S nc th va ks lf rg hw cn) (hb : zc_ct S 64 ≤ p) (h : ∀ my : Nat → Int32, post (-1) (nc, th, va, ks, lf, rg, hw, cn, my)) : ∀ (n v : Nat) (my : Nat → Int32), v ≤ 256 → 256 - v < n → wY_ranked_27 post c (nI k) (nI p) n (nI (zc_ct (za_lt S (fun r => W r k) 0 v) 64)) (nI v) nc th va ks lf rg hw cn my := by
  intro n
  induction n with
  | zero => intro v my hi hn; omega
  | succ n ih =>
    intro v my hi hn
    refine pk_le 256 v (fun hle => h my) (fun hlt => ?_)
    refine zy_hv (W := W) hk hlt hV H (fun my => ?_)
    have e1 := za_step S (fun r => W r k) 0 v 64
    have l1 := za_all S (fun r => W r k) 0 (v + 1) 64
    refine nm_r (e' := nI (zc_ct (za_lt S (fun r => W r k) 0 (v + 1)) 64)) (by rw [nI_add, e1]) ?_
    refine br_t (nI_le (by omega) hp) (nm_r (nI_1 v) ?_)
    exact ih (v + 1) my (by omega) (by omega)
theorem zy_rkn {post : Int32 → SY → Prop} {k p : Nat} (hk : k < 3) (hp : p < 2 ^ 31) (hV : zr_VA va W) (H : zy_H c S nc th va ks lf rg hw cn) (hb : zc_ct S 64 ≤ p) (h : ∀ my : Nat → Int32, post (-1) (nc, th, va, ks, lf, rg, hw, cn, my)) : ∃ n, wY_ranked_27 post c (nI k) (nI p) n 0 0 nc th va ks lf rg hw cn my := by
  refine ⟨257, ?_⟩
  have k0 := zy_rkN hk hp hV H hb h 257 0 my (by omega) (by omega)
  rw [za_lt0] at k0
  exact k0
theorem zy_dfL {post : Int32 → SY → Prop} {k : Nat} (hk : k < 3) (hV : zr_VA va W) (H : zy_H c S nc th va ks lf rg hw cn) (h : ∀ my : Nat → Int32, post (nI (zc_ct (fun u => decide (0 < zc_ct (za_eq S (fun r => W r k) 0 u) 64)) 256)) (nc, th, va, ks, lf, rg, hw, cn, my)) : ∀ (n v : Nat) (my : Nat → Int32), v ≤ 256 → 256 - v < n → wY_different_22 post c (nI k) n (nI (zc_ct (fun u => decide (0 < zc_ct (za_eq S (fun r => W r k) 0 u) 64)) v)) (nI v) nc th va ks lf rg hw cn my := by
  intro n
  induction n with
  | zero => intro v my hi hn; omega
  | succ n ih =>
    intro v my hi hn
    refine pk_le 256 v (fun hle => ?_) (fun hlt => ?_)
    · obtain rfl : v = 256 := by omega
      exact h my
    · refine zy_hv (W := W) hk hlt hV H (fun my => ?_)
      have l1 := zc_le (za_eq S (fun r => W r k) 0 v) 64
      have kk := ih (v + 1) my (by omega) (by omega)
      rw [zc_s] at kk
      refine pk_le (zc_ct (za_eq S (fun r => W r k) 0 v) 64) 0 (fun hle => nm_r (nI_1 v) ?_) (fun hgt => nm_r (nI_1 _) (nm_r (nI_1 v) ?_))
      · rw [decide_eq_false (show ¬ 0 < zc_ct (za_eq S (fun r => W r k) 0 v) 64 by omega)] at kk
        exact kk
      · rw [decide_eq_true hgt] at kk
        exact kk
theorem zy_df {post : Int32 → SY → Prop} {k : Nat} (hk : k < 3) (hV : zr_VA va W) (H : zy_H c S nc th va ks lf rg hw cn) (h : ∀ my : Nat → Int32, post (nI (zc_ct (fun u => decide (0 < zc_ct (za_eq S (fun r => W r k) 0 u) 64)) 256)) (nc, th, va, ks, lf, rg, hw, cn, my)) : ∃ n, wY_different_22 post c (nI k) n 0 0 nc th va ks lf rg hw cn my :=
  ⟨257, zy_dfL hk hV H h 257 0 my (by omega) (by omega)⟩
end
end
section
/-! ===== the relation ===== -/
def zr_R (m : Nat) (pr : Int64) (sl : Nat → Int64) (ks lf rg hw cn : Nat → Int32) (mt : Nat → Int64) (fr th va : Nat → Int32) (W : Nat → Nat → Nat) : Prop :=
  m ≤ 16 ∧ (∀ r, r < 64 → th r = zb_i (zl_b pr r)) ∧ zr_SL sl W ∧ zr_VA va W ∧ (∀ i, i < m → zm_ok ks lf rg i) ∧ zr_MT m 0 pr ks lf rg hw cn W mt fr
/-- equal tables of conditions; the rows there are the bits of present, the values' digits are the bits of the slices; what is fresh is right -/
def i_Rel (_ : Nat) (u : SX) (v : SY) : Prop := match u, v with
  | (pr, nc, ls, qs, sl, ks, lf, rg, hw, cn, mt, fr, tt, st, hv), (nc2, th, va, ks2, lf2, rg2, hw2, cn2, _) =>
    ∃ (m : Nat) (W : Nat → Nat → Nat), nc = nI m ∧ nc2 = nI m ∧ ks2 = ks ∧ lf2 = lf ∧ rg2 = rg ∧ hw2 = hw ∧ cn2 = cn ∧ zr_R m pr sl ks lf rg hw cn mt fr th va W
theorem zr_el {P : SX → SY → Prop} {k : Nat} {u : SX} {v : SY} (h : ∀ (m : Nat) (pr ls qs : Int64) (sl : Nat → Int64) (ks lf rg hw cn : Nat → Int32) (mt : Nat → Int64) (fr : Nat → Int32) (tt st hv : Nat → Int64) (th va my : Nat → Int32) (W : Nat → Nat → Nat), zr_R m pr sl ks lf rg hw cn mt fr th va W → P (pr, nI m, ls, qs, sl, ks, lf, rg, hw, cn, mt, fr, tt, st, hv) (nI m, th, va, ks, lf, rg, hw, cn, my)) (I : i_Rel k u v) : P u v := by
  obtain ⟨pr, nc, ls, qs, sl, ks, lf, rg, hw, cn, mt, fr, tt, st, hv⟩ := u
  obtain ⟨nc2, th, va, ks2, lf2, rg2, hw2, cn2, my⟩ := v
  obtain ⟨m, W, rfl, rfl, rfl, rfl, rfl, rfl, rfl, H⟩ := I
  exact h m pr ls qs sl _ _ _ _ _ mt fr tt st hv th va my W H
section
variable {m k : Nat} {pr ls qs : Int64} {sl mt tt st hv : Nat → Int64} {ks lf rg hw cn fr th va my : Nat → Int32} {W : Nat → Nat → Nat}
theorem zr_in (H : zr_R m pr sl ks lf rg hw cn mt fr th va W) : i_Rel k (pr, nI m, ls, qs, sl, ks, lf, rg, hw, cn, mt, fr, tt, st, hv) (nI m, th, va, ks, lf, rg, hw, cn, my) :=
  ⟨m, W, rfl, rfl, rfl, rfl, rfl, rfl, rfl, H⟩
theorem zr_W (H : zr_R m pr sl ks lf rg hw cn mt fr th va W) : ∀ r, r < 64 → ∀ c, c < 3 → W r c < 256 := fun r hr c hc => (H.2.2.2.1 r hr c hc).1
theorem zr_mt (H : zr_R m pr sl ks lf rg hw cn mt fr th va W) {mt' : Nat → Int64} {fr' : Nat → Int32} (hM : zr_MT m 0 pr ks lf rg hw cn W mt' fr') : zr_R m pr sl ks lf rg hw cn mt' fr' th va W :=
  ⟨H.1, H.2.1, H.2.2.1, H.2.2.2.1, H.2.2.2.2.1, hM⟩
theorem zr_H (H : zr_R m pr sl ks lf rg hw cn mt fr th va W) {c : Int32} (hc : c = -1 ∨ ∃ i, i < m ∧ c = nI i) : zy_H c (zm_S pr ks lf rg hw cn W c) (nI m) th va ks lf rg hw cn :=
  fun _ _ _ hr h => zy_mt (W := W) H.1 hr hc H.2.1 H.2.2.2.1 H.2.2.2.2.1 h
theorem zr_no {pr : Int64} {W : Nat → Nat → Nat} {fr : Nat → Int32} (hm : m ≤ 16) (hf : ∀ j, j < 16 → fr j = 0) : zr_MT m 0 pr ks lf rg hw cn W mt fr := fun i hi hor => by
  rcases hor with z | z
  · omega
  · exact absurd (hf i (by omega)) z
/-- a new row -/
def zr_nW (W : Nat → Nat → Nat) (j : Nat) (a b c : Int32) : Nat → Nat → Nat := fun r k => if r = j then (if k = 0 then a.toBitVec.toNat % 256 else if k = 1 then b.toBitVec.toNat % 256 else c.toBitVec.toNat % 256) else W r k
theorem zr_and (a : Int32) : a &&& 255 = nI (a.toBitVec.toNat % 256) := pk_and a 8 (by decide)
theorem zr_nVA {j : Nat} {a b c : Int32} (hV : zr_VA va W) : zr_VA (upd (upd (upd va (3 * j) (a &&& 255)) (3 * j + 1) (b &&& 255)) (3 * j + 2) (c &&& 255)) (zr_nW W j a b c) := by
  intro r hr k hk
  unfold zr_nW
  by_cases e : r = j
  · subst e
    rw [if_pos rfl]
    have h256 : ∀ x : Nat, x % 256 < 256 := fun x => Nat.mod_lt _ (by decide)
    rcases (by omega : k = 0 ∨ k = 1 ∨ k = 2) with rfl | rfl | rfl
    · rw [if_pos rfl, pk_un (by omega), pk_un (by omega), Nat.add_zero, pk_us, zr_and]
      exact ⟨h256 _, rfl⟩
    · rw [if_neg (by decide), if_pos rfl, pk_un (by omega), pk_us, zr_and]
      exact ⟨h256 _, rfl⟩
    · rw [if_neg (by decide), if_neg (by decide), pk_us, zr_and]
      exact ⟨h256 _, rfl⟩
  · rw [if_neg e, pk_un (by omega), pk_un (by omega), pk_un (by omega)]
    exact hV r hr k hk
theorem zr_nSL {s1 s2 s3 : Nat → Int64} {j : Nat} {a b c : Int32} (hS : zr_SL sl W) (h1 : zx_SC sl s1 j 0 8 a) (h2 : zx_SC s1 s2 j 1 8 b) (h3 : zx_SC s2 s3 j 2 8 c) : zr_SL s3 (zr_nW W j a b c) := by
  intro k hk d hd r hr
  rw [h3 _ (by omega) r hr, h2 _ (by omega) r hr, h1 _ (by omega) r hr]
  unfold zr_nW
  by_cases e : r = j
  · rw [if_pos e]
    rcases (by omega : k = 0 ∨ k = 1 ∨ k = 2) with rfl | rfl | rfl
    · rw [if_neg (fun z => by omega), if_neg (fun z => by omega), if_pos ⟨by omega, e⟩, if_pos rfl, zp_mod _ hd, zl_bt, show 8 * 0 + d - 8 * 0 = d by omega]
    · rw [if_neg (fun z => by omega), if_pos ⟨by omega, e⟩, if_neg (by decide), if_pos rfl, zp_mod _ hd, zl_bt, show 8 * 1 + d - 8 * 1 = d by omega]
    · rw [if_pos ⟨by omega, e⟩, if_neg (by decide), if_neg (by decide), zp_mod _ hd, zl_bt, show 8 * 2 + d - 8 * 2 = d by omega]
  · rw [if_neg e, if_neg (fun z => e z.2), if_neg (fun z => e z.2), if_neg (fun z => e z.2)]
    exact hS k hk d hd r hr
theorem zr_put {s1 s2 s3 : Nat → Int64} {f : Nat → Int32} {j : Nat} {a b c : Int32} (H : zr_R m pr sl ks lf rg hw cn mt fr th va W) (hj : j < 64) (h1 : zx_SC sl s1 j 0 8 a) (h2 : zx_SC s1 s2 j 1 8 b) (h3 : zx_SC s2 s3 j 2 8 c) (hf : ∀ i, i < 16 → f i = 0) :
    zr_R m (pr ||| ((1 : Int64) <<< ((nI j).toInt64 &&& 63))) s3 ks lf rg hw cn mt f (upd th j 1) (upd (upd (upd va (3 * j) (a &&& 255)) (3 * j + 1) (b &&& 255)) (3 * j + 2) (c &&& 255)) (zr_nW W j a b c) := by
  refine ⟨H.1, fun r hr => ?_, zr_nSL H.2.2.1 h1 h2 h3, zr_nVA H.2.2.2.1, H.2.2.2.2.1, zr_no H.1 hf⟩
  rw [zl_or, zl_one j hj r hr]
  by_cases e : r = j
  · rw [e, pk_us, decide_eq_true rfl, Bool.or_true]; rfl
  · rw [pk_un e, decide_eq_false e, Bool.or_false]
    exact H.2.1 r hr
theorem zr_drop {f : Nat → Int32} {j : Nat} (H : zr_R m pr sl ks lf rg hw cn mt fr th va W) (hj : j < 64) (hf : ∀ i, i < 16 → f i = 0) :
    zr_R m (pr &&& (((1 : Int64) <<< ((nI j).toInt64 &&& 63)) ^^^ (-1))) sl ks lf rg hw cn mt f (upd th j 0) va W := by
  refine ⟨H.1, fun r hr => ?_, H.2.2.1, H.2.2.2.1, H.2.2.2.2.1, zr_no H.1 hf⟩
  rw [zl_and, zl_not _ hr, zl_one j hj r hr]
  by_cases e : r = j
  · rw [e, pk_us, decide_eq_true rfl, Bool.not_true, Bool.and_false]; rfl
  · rw [pk_un e, decide_eq_false e, Bool.not_false, Bool.and_true]
    exact H.2.1 r hr
/-- a new condition -/
def zr_ok (m : Nat) (s a b : Int32) : Prop := (s = 3 ∧ ∃ x y : Nat, x < m ∧ y < m ∧ a = nI x ∧ b = nI y) ∨ ((s = 0 ∨ s = 1 ∨ s = 2) ∧ ∃ x y : Nat, x < 3 ∧ y < 3 ∧ a = nI x ∧ b = nI y)
theorem zr_new {s a b h c : Int32} (H : zr_R m pr sl ks lf rg hw cn mt fr th va W) (hm : m < 16) (ho : zr_ok m s a b) :
    zr_R (m + 1) pr sl (upd ks m s) (upd lf m a) (upd rg m b) (upd hw m h) (upd cn m c) mt (upd fr m 0) th va W := by
  refine ⟨hm, H.2.1, H.2.2.1, H.2.2.2.1, fun i hi => ?_, fun i hi hor r hr => ?_⟩
  · unfold zm_ok
    by_cases e : i = m
    · subst e
      rw [pk_us, pk_us, pk_us]
      exact ho
    · rw [pk_un e, pk_un e, pk_un e]
      exact H.2.2.2.2.1 i (by omega)
  · rcases hor with z | z
    · omega
    · have e : i ≠ m := fun e => z (by rw [e, pk_us])
      rw [pk_un e] at z
      have hi' : i < m := by omega
      rw [zm_cg (ks := ks) (lf := lf) (rg := rg) (hw := hw) (cn := cn) (fun j hj => ⟨pk_un (by omega), pk_un (by omega), pk_un (by omega), pk_un (by omega), pk_un (by omega)⟩)]
      exact H.2.2.2.2.2 i hi' (Or.inr z) r hr
theorem zx_mk {post : Int32 → SX → Prop} {s a b h c : Int32} (hm : m < 16) (hp : post (nI m) (pr, nI (m + 1), ls, qs, sl, upd ks m s, upd lf m a, upd rg m b, upd hw m h, upd cn m c, mt, upd fr m 0, tt, st, hv)) : wpX_make post (pr, nI m, ls, qs, sl, ks, lf, rg, hw, cn, mt, fr, tt, st, hv) s a b h c := by
  have pin : vp_in (nI m) 16 := pk_in m 16 hm
  have cm : (nI m).toNatClampNeg = m := nI_clamp (by omega)
  unfold wpX_make
  dsimp only
  rw [cm]
  exact br_t (nI_lt (b := 16) hm (by decide)) ⟨pin, nm_e ⟨pin, nm_e ⟨pin, nm_e ⟨pin, nm_e ⟨pin, nm_e ⟨pin, nm_e (nm_r (nI_1 m) hp)⟩⟩⟩⟩⟩⟩
theorem zx_mkN {post : Int32 → SX → Prop} {s a b h c : Int32} (hm : m = 16) (hp : post (-1) (pr, nI m, ls, qs, sl, ks, lf, rg, hw, cn, mt, fr, tt, st, hv)) : wpX_make post (pr, nI m, ls, qs, sl, ks, lf, rg, hw, cn, mt, fr, tt, st, hv) s a b h c := by
  subst hm
  exact br_f (by decide) hp
theorem zy_mk {post : Int32 → SY → Prop} {s a b h c : Int32} (hm : m < 16) (hp : post (nI m) (nI (m + 1), th, va, upd ks m s, upd lf m a, upd rg m b, upd hw m h, upd cn m c, my)) : wpY_make post (nI m, th, va, ks, lf, rg, hw, cn, my) s a h b c := by
  have pin : vp_in (nI m) 16 := pk_in m 16 hm
  have cm : (nI m).toNatClampNeg = m := nI_clamp (by omega)
  unfold wpY_make
  dsimp only
  rw [cm]
  refine br_f (fun e => ?_) ⟨pin, nm_e ⟨pin, nm_e ⟨pin, nm_e ⟨pin, nm_e ⟨pin, nm_e (nm_r (nI_1 m) ?_)⟩⟩⟩⟩⟩
  · have z := (nI_eq (a := m) (b := 16) (by omega) (by decide)).mp e
    omega
  · rw [nI_pred]
    exact hp
theorem zy_mkN {post : Int32 → SY → Prop} {s a b h c : Int32} (hm : m = 16) (hp : post (-1) (nI m, th, va, ks, lf, rg, hw, cn, my)) : wpY_make post (nI m, th, va, ks, lf, rg, hw, cn, my) s a h b c := by
  subst hm
  exact br_t (by decide) hp
/-- columns and conditions, for both sides -/
theorem zr_col (v : Int32) : (∃ c, c < 3 ∧ v = nI c ∧ (∀ post : Int32 → Prop, post 1 → wpX_isColumn post v) ∧ (∀ post : Int32 → Prop, post 0 → wpY_badColumn post v)) ∨ ((∀ post : Int32 → Prop, post 0 → wpX_isColumn post v) ∧ (∀ post : Int32 → Prop, post 1 → wpY_badColumn post v)) := by
  have e2 : (2 : Int32).toInt = 2 := by decide
  have e0 : (0 : Int32).toInt = 0 := by decide
  have e3 : (nI 3).toInt = 3 := by decide
  rcases pk_ix v (n := 3) (by decide) with h | h | ⟨j, hj, rfl⟩
  · exact Or.inr ⟨fun _ hp => br_t h hp, fun _ hp => br_t h hp⟩
  · rw [Int32.le_iff_toInt_le, e3] at h
    have h0 : ¬ v < 0 := by rw [Int32.lt_iff_toInt_lt, e0]; omega
    have h2 : 2 < v := by rw [Int32.lt_iff_toInt_lt, e2]; omega
    have h3 : ¬ v ≤ 2 := by rw [Int32.le_iff_toInt_le, e2]; omega
    exact Or.inr ⟨fun _ hp => br_f h0 (br_t h2 hp), fun _ hp => br_f h0 (br_f h3 hp)⟩
  · have h0 : ¬ nI j < 0 := nI_pos (by omega)
    have h2 : ¬ 2 < nI j := nI_nlt (a := 2) (by omega) (by decide)
    have h3 : nI j ≤ 2 := nI_le (b := 2) (by omega) (by decide)
    exact Or.inl ⟨j, hj, rfl, fun _ hp => br_f h0 (br_f h2 hp), fun _ hp => br_f h0 (br_t h3 hp)⟩
theorem zr_cnd (hm : m ≤ 16) (v : Int32) : ((v = -1 ∨ ∃ i, i < m ∧ v = nI i) ∧ (∀ post : Int32 → Prop, post 1 → wpX_isCondition post (pr, nI m, ls, qs, sl, ks, lf, rg, hw, cn, mt, fr, tt, st, hv) v) ∧ (∀ (post : Int32 → Prop) (my : Nat → Int32), post 0 → wpY_missing post (nI m, th, va, ks, lf, rg, hw, cn, my) v)) ∨ ((∀ post : Int32 → Prop, post 0 → wpX_isCondition post (pr, nI m, ls, qs, sl, ks, lf, rg, hw, cn, mt, fr, tt, st, hv) v) ∧ (∀ (post : Int32 → Prop) (my : Nat → Int32), post 1 → wpY_missing post (nI m, th, va, ks, lf, rg, hw, cn, my) v)) := by
  have e0 : (0 : Int32).toInt = 0 := by decide
  have e1 : (-1 : Int32).toInt = -1 := by decide
  rcases pk_ix v (n := m) (by omega) with h | h | ⟨j, hj, rfl⟩
  · by_cases h1 : v < -1
    · exact Or.inr ⟨fun _ hp => br_t h1 hp, fun _ _ hp => br_t h1 hp⟩
    · have ev : v = -1 := by
        rw [Int32.lt_iff_toInt_lt, e0] at h
        rw [Int32.lt_iff_toInt_lt, e1] at h1
        apply Int32.toInt_inj.mp
        rw [e1]; omega
      subst ev
      have hlt : (-1 : Int32) < nI m := by rw [Int32.lt_iff_toInt_lt, e1, nI_toInt (by omega)]; omega
      exact Or.inl ⟨Or.inl rfl, fun _ hp => br_f (by decide) (br_f (Int32.not_le.mpr hlt) hp), fun _ _ hp => br_f (by decide) (br_t hlt hp)⟩
  · have h1 : ¬ v < -1 := by
      rw [Int32.le_iff_toInt_le, nI_toInt (by omega)] at h
      rw [Int32.lt_iff_toInt_lt, e1]; omega
    exact Or.inr ⟨fun _ hp => br_f h1 (br_t h hp), fun _ _ hp => br_f h1 (br_f (Int32.not_lt.mpr h) hp)⟩
  · have h1 : ¬ nI j < -1 := by rw [Int32.lt_iff_toInt_lt, e1, nI_toInt (by omega)]; omega
    exact Or.inl ⟨Or.inr ⟨j, hj, rfl⟩, fun _ hp => br_f h1 (br_f (nI_ge hj (by omega)) hp), fun _ _ hp => br_f h1 (br_t (nI_lt hj (by omega)) hp)⟩
end
end
section
/-! ===== what is owed ===== -/
theorem i_up {k : Nat} {u : SX} {v : SY} (h : i_Rel k u v) : i_Rel (k + 5) u v := h
theorem i_vc0 : wpX_init (fun u => wpY_init (fun v => i_Rel 0 u v)) := by
  refine ⟨0, fun _ _ => 0, rfl, rfl, rfl, rfl, rfl, rfl, rfl, by omega, fun r _ => ?_, fun c _ b _ r _ => ?_, fun r _ c _ => ⟨show 0 < 256 by decide, rfl⟩, fun i hi => absurd hi (Nat.not_lt_zero _), fun i hi => absurd hi (Nat.not_lt_zero _)⟩
  · rw [zl_0]; rfl
  · rw [zp_0, zl_0]
theorem i_vc_put {k : Nat} {u : SX} {v : SY} (I : i_Rel k u v) (hk : k + 5 ≤ 2560) (v1 : Int32) (v2 : Int32) (v3 : Int32) (v4 : Int32) : wpX_put (fun r u' => wpY_put (fun r' v' => r' = r ∧ i_Rel (k + 5) u' v') v v1 v2 v3 v4) u v1 v2 v3 v4 := by
  refine zr_el (P := fun u v => wpX_put (fun r u' => wpY_put (fun r' v' => r' = r ∧ i_Rel (k + 5) u' v') v v1 v2 v3 v4) u v1 v2 v3 v4) ?_ I
  intro m pr ls qs sl ks lf rg hw cn mt fr tt st hv th va my W H
  rcases pk_ix v1 (n := 64) (by decide) with h | h | ⟨j, hj, rfl⟩
  · exact br_t h (br_t h ⟨rfl, zr_in H⟩)
  · have e0 : (0 : Int32).toInt = 0 := by decide
    have e63 : (63 : Int32).toInt = 63 := by decide
    have e64 : (nI 64).toInt = 64 := by decide
    rw [Int32.le_iff_toInt_le, e64] at h
    have h0 : ¬ v1 < 0 := by rw [Int32.lt_iff_toInt_lt, e0]; omega
    have h3 : ¬ v1 ≤ 63 := by rw [Int32.le_iff_toInt_le, e63]; omega
    exact br_f h0 (br_f h3 (br_f h0 (br_f h3 ⟨rfl, zr_in H⟩)))
  · have h0 : ¬ nI j < 0 := nI_pos (by omega)
    have h3 : nI j ≤ 63 := nI_le (b := 63) (by omega) (by decide)
    refine br_f h0 (br_t h3 (nm_e ?_))
    refine zx_sc (c := 0) hj (by decide) (fun s1 hs1 => ?_)
    refine zx_sc (c := 1) hj (by decide) (fun s2 hs2 => ?_)
    refine zx_sc (c := 2) hj (by decide) (fun s3 hs3 => ?_)
    refine zx_fg (fun f hf => ?_)
    have cj : (nI j).toNatClampNeg = j := nI_clamp (by omega)
    have x0 : (3 : Int32) * nI j = nI (3 * j) := pk_mul 3 j
    have x2 : nI (3 * j) + 2 = nI (3 * j + 2) := nI_add (3 * j) 2
    have c0 : (nI (3 * j)).toNatClampNeg = 3 * j := nI_clamp (by omega)
    have c1 : (nI (3 * j + 1)).toNatClampNeg = 3 * j + 1 := nI_clamp (by omega)
    have c2 : (nI (3 * j + 2)).toNatClampNeg = 3 * j + 2 := nI_clamp (by omega)
    refine br_f h0 (br_t h3 ?_)
    rw [x0, nI_1, x2, cj, c0, c1, c2]
    exact ⟨pk_in j 64 hj, nm_e ⟨pk_in (3 * j) 192 (by omega), nm_e ⟨pk_in (3 * j + 1) 192 (by omega), nm_e ⟨pk_in (3 * j + 2) 192 (by omega), nm_e ⟨rfl, zr_in (zr_put H hj hs1 hs2 hs3 hf)⟩⟩⟩⟩⟩
theorem i_vc_drop {k : Nat} {u : SX} {v : SY} (I : i_Rel k u v) (hk : k + 5 ≤ 2560) (v1 : Int32) : wpX_drop (fun r u' => wpY_drop (fun r' v' => r' = r ∧ i_Rel (k + 5) u' v') v v1) u v1 := by
  refine zr_el (P := fun u v => wpX_drop (fun r u' => wpY_drop (fun r' v' => r' = r ∧ i_Rel (k + 5) u' v') v v1) u v1) ?_ I
  intro m pr ls qs sl ks lf rg hw cn mt fr tt st hv th va my W H
  rcases pk_ix v1 (n := 64) (by decide) with h | h | ⟨j, hj, rfl⟩
  · exact br_t h (br_t h ⟨rfl, zr_in H⟩)
  · have e0 : (0 : Int32).toInt = 0 := by decide
    have e63 : (63 : Int32).toInt = 63 := by decide
    have e64 : (nI 64).toInt = 64 := by decide
    rw [Int32.le_iff_toInt_le, e64] at h
    have h0 : ¬ v1 < 0 := by rw [Int32.lt_iff_toInt_lt, e0]; omega
    have h3 : ¬ v1 ≤ 63 := by rw [Int32.le_iff_toInt_le, e63]; omega
    exact br_f h0 (br_f h3 (br_f h0 (br_f h3 ⟨rfl, zr_in H⟩)))
  · have h0 : ¬ nI j < 0 := nI_pos (by omega)
    have h3 : nI j ≤ 63 := nI_le (b := 63) (by omega) (by decide)
    refine br_f h0 (br_t h3 (nm_r (zl_digD pr hj) (nm_e ?_)))
    refine zx_fg (fun f hf => ?_)
    have cj : (nI j).toNatClampNeg = j := nI_clamp (by omega)
    refine br_f h0 (br_t h3 ?_)
    rw [cj, H.2.1 j hj]
    refine ⟨pk_in j 64 hj, ?_⟩
    cases e : zl_b pr j
    · refine br_t rfl ?_
      unfold wY_drop_26
      rw [cj]
      exact ⟨pk_in j 64 hj, nm_e ⟨rfl, zr_in (zr_drop H hj hf)⟩⟩
    · refine br_f (by decide) ?_
      unfold wY_drop_26
      rw [cj]
      exact ⟨pk_in j 64 hj, nm_e ⟨rfl, zr_in (zr_drop H hj hf)⟩⟩
theorem i_vc_compare {k : Nat} {u : SX} {v : SY} (I : i_Rel k u v) (hk : k + 5 ≤ 2560) (v1 : Int32) (v2 : Int32) (v3 : Int32) : wpX_compare (fun r u' => wpY_compare (fun r' v' => r' = r ∧ i_Rel (k + 5) u' v') v v1 v2 v3) u v1 v2 v3 := by
  refine zr_el (P := fun u v => wpX_compare (fun r u' => wpY_compare (fun r' v' => r' = r ∧ i_Rel (k + 5) u' v') v v1 v2 v3) u v1 v2 v3) ?_ I
  intro m pr ls qs sl ks lf rg hw cn mt fr tt st hv th va my W H
  rcases zr_col v1 with ⟨c, hc, rfl, cX, cY⟩ | ⟨cX, cY⟩
  · by_cases q0 : v2 < 0
    · unfold wpX_compare
      dsimp only
      refine cX _ ?_
      refine br_f (by decide) ?_
      refine br_t q0 ?_
      unfold wpY_compare
      dsimp only
      refine cY _ ?_
      refine br_t rfl ?_
      refine br_t q0 ?_
      exact ⟨rfl, zr_in H⟩
    · by_cases q5 : v2 ≤ 5
      · rcases Nat.lt_or_ge m 16 with hm | hm
        · unfold wpX_compare
          dsimp only
          refine cX _ ?_
          refine br_f (by decide) ?_
          refine br_f q0 ?_
          refine br_t q5 ?_
          refine zx_mk hm ?_
          unfold wpY_compare
          dsimp only
          refine cY _ ?_
          refine br_t rfl ?_
          refine br_f q0 ?_
          refine br_t q5 ?_
          refine zy_mk hm ?_
          exact ⟨rfl, zr_in (zr_new H hm (Or.inr ⟨Or.inl rfl, c, 0, hc, by decide, rfl, rfl⟩))⟩
        · have hm' : m = 16 := by have := H.1; omega
          unfold wpX_compare
          dsimp only
          refine cX _ ?_
          refine br_f (by decide) ?_
          refine br_f q0 ?_
          refine br_t q5 ?_
          refine zx_mkN hm' ?_
          unfold wpY_compare
          dsimp only
          refine cY _ ?_
          refine br_t rfl ?_
          refine br_f q0 ?_
          refine br_t q5 ?_
          refine zy_mkN hm' ?_
          exact ⟨rfl, zr_in H⟩
      · unfold wpX_compare
        dsimp only
        refine cX _ ?_
        refine br_f (by decide) ?_
        refine br_f q0 ?_
        refine br_f q5 ?_
        unfold wpY_compare
        dsimp only
        refine cY _ ?_
        refine br_t rfl ?_
        refine br_f q0 ?_
        refine br_f q5 ?_
        exact ⟨rfl, zr_in H⟩
  · unfold wpX_compare
    dsimp only
    refine cX _ ?_
    refine br_t rfl ?_
    unfold wpY_compare
    dsimp only
    refine cY _ ?_
    refine br_f (by decide) ?_
    exact ⟨rfl, zr_in H⟩
theorem i_vc_columns {k : Nat} {u : SX} {v : SY} (I : i_Rel k u v) (hk : k + 5 ≤ 2560) (v1 : Int32) (v2 : Int32) (v3 : Int32) : wpX_columns (fun r u' => wpY_columns (fun r' v' => r' = r ∧ i_Rel (k + 5) u' v') v v1 v2 v3) u v1 v2 v3 := by
  refine zr_el (P := fun u v => wpX_columns (fun r u' => wpY_columns (fun r' v' => r' = r ∧ i_Rel (k + 5) u' v') v v1 v2 v3) u v1 v2 v3) ?_ I
  intro m pr ls qs sl ks lf rg hw cn mt fr tt st hv th va my W H
  rcases zr_col v1 with ⟨c, hc, rfl, cX, cY⟩ | ⟨cX, cY⟩
  · rcases zr_col v3 with ⟨d, hd, rfl, dX, dY⟩ | ⟨dX, dY⟩
    · by_cases q0 : v2 < 0
      · unfold wpX_columns
        dsimp only
        refine cX _ ?_
        refine br_f (by decide) ?_
        refine dX _ ?_
        refine br_f (by decide) ?_
        refine br_t q0 ?_
        unfold wpY_columns
        dsimp only
        refine cY _ ?_
        refine br_t rfl ?_
        refine dY _ ?_
        refine br_t rfl ?_
        refine br_t q0 ?_
        exact ⟨rfl, zr_in H⟩
      · by_cases q5 : v2 ≤ 5
        · rcases Nat.lt_or_ge m 16 with hm | hm
          · unfold wpX_columns
            dsimp only
            refine cX _ ?_
            refine br_f (by decide) ?_
            refine dX _ ?_
            refine br_f (by decide) ?_
            refine br_f q0 ?_
            refine br_t q5 ?_
            refine zx_mk hm ?_
            unfold wpY_columns
            dsimp only
            refine cY _ ?_
            refine br_t rfl ?_
            refine dY _ ?_
            refine br_t rfl ?_
            refine br_f q0 ?_
            refine br_t q5 ?_
            refine zy_mk hm ?_
            exact ⟨rfl, zr_in (zr_new H hm (Or.inr ⟨Or.inr (Or.inl rfl), c, d, hc, hd, rfl, rfl⟩))⟩
          · have hm' : m = 16 := by have := H.1; omega
            unfold wpX_columns
            dsimp only
            refine cX _ ?_
            refine br_f (by decide) ?_
            refine dX _ ?_
            refine br_f (by decide) ?_
            refine br_f q0 ?_
            refine br_t q5 ?_
            refine zx_mkN hm' ?_
            unfold wpY_columns
            dsimp only
            refine cY _ ?_
            refine br_t rfl ?_
            refine dY _ ?_
            refine br_t rfl ?_
            refine br_f q0 ?_
            refine br_t q5 ?_
            refine zy_mkN hm' ?_
            exact ⟨rfl, zr_in H⟩
        · unfold wpX_columns
          dsimp only
          refine cX _ ?_
          refine br_f (by decide) ?_
          refine dX _ ?_
          refine br_f (by decide) ?_
          refine br_f q0 ?_
          refine br_f q5 ?_
          unfold wpY_columns
          dsimp only
          refine cY _ ?_
          refine br_t rfl ?_
          refine dY _ ?_
          refine br_t rfl ?_
          refine br_f q0 ?_
          refine br_f q5 ?_
          exact ⟨rfl, zr_in H⟩
    · unfold wpX_columns
      dsimp only
      refine cX _ ?_
      refine br_f (by decide) ?_
      refine dX _ ?_
      refine br_t rfl ?_
      unfold wpY_columns
      dsimp only
      refine cY _ ?_
      refine br_t rfl ?_
      refine dY _ ?_
      refine br_f (by decide) ?_
      exact ⟨rfl, zr_in H⟩
  · unfold wpX_columns
    dsimp only
    refine cX _ ?_
    refine br_t rfl ?_
    unfold wpY_columns
    dsimp only
    refine cY _ ?_
    refine br_f (by decide) ?_
    exact ⟨rfl, zr_in H⟩
theorem i_vc_sums {k : Nat} {u : SX} {v : SY} (I : i_Rel k u v) (hk : k + 5 ≤ 2560) (v1 : Int32) (v2 : Int32) (v3 : Int32) (v4 : Int32) : wpX_sums (fun r u' => wpY_sums (fun r' v' => r' = r ∧ i_Rel (k + 5) u' v') v v1 v2 v3 v4) u v1 v2 v3 v4 := by
  refine zr_el (P := fun u v => wpX_sums (fun r u' => wpY_sums (fun r' v' => r' = r ∧ i_Rel (k + 5) u' v') v v1 v2 v3 v4) u v1 v2 v3 v4) ?_ I
  intro m pr ls qs sl ks lf rg hw cn mt fr tt st hv th va my W H
  rcases zr_col v1 with ⟨c, hc, rfl, cX, cY⟩ | ⟨cX, cY⟩
  · rcases zr_col v2 with ⟨d, hd, rfl, dX, dY⟩ | ⟨dX, dY⟩
    · by_cases q0 : v3 < 0
      · unfold wpX_sums
        dsimp only
        refine cX _ ?_
        refine br_f (by decide) ?_
        refine dX _ ?_
        refine br_f (by decide) ?_
        refine br_t q0 ?_
        unfold wpY_sums
        dsimp only
        refine cY _ ?_
        refine br_t rfl ?_
        refine dY _ ?_
        refine br_t rfl ?_
        refine br_t q0 ?_
        exact ⟨rfl, zr_in H⟩
      · by_cases q5 : v3 ≤ 5
        · rcases Nat.lt_or_ge m 16 with hm | hm
          · unfold wpX_sums
            dsimp only
            refine cX _ ?_
            refine br_f (by decide) ?_
            refine dX _ ?_
            refine br_f (by decide) ?_
            refine br_f q0 ?_
            refine br_t q5 ?_
            refine zx_mk hm ?_
            unfold wpY_sums
            dsimp only
            refine cY _ ?_
            refine br_t rfl ?_
            refine dY _ ?_
            refine br_t rfl ?_
            refine br_f q0 ?_
            refine br_t q5 ?_
            refine zy_mk hm ?_
            exact ⟨rfl, zr_in (zr_new H hm (Or.inr ⟨Or.inr (Or.inr rfl), c, d, hc, hd, rfl, rfl⟩))⟩
          · have hm' : m = 16 := by have := H.1; omega
            unfold wpX_sums
            dsimp only
            refine cX _ ?_
            refine br_f (by decide) ?_
            refine dX _ ?_
            refine br_f (by decide) ?_
            refine br_f q0 ?_
            refine br_t q5 ?_
            refine zx_mkN hm' ?_
            unfold wpY_sums
            dsimp only
            refine cY _ ?_
            refine br_t rfl ?_
            refine dY _ ?_
            refine br_t rfl ?_
            refine br_f q0 ?_
            refine br_t q5 ?_
            refine zy_mkN hm' ?_
            exact ⟨rfl, zr_in H⟩
        · unfold wpX_sums
          dsimp only
          refine cX _ ?_
          refine br_f (by decide) ?_
          refine dX _ ?_
          refine br_f (by decide) ?_
          refine br_f q0 ?_
          refine br_f q5 ?_
          unfold wpY_sums
          dsimp only
          refine cY _ ?_
          refine br_t rfl ?_
          refine dY _ ?_
          refine br_t rfl ?_
          refine br_f q0 ?_
          refine br_f q5 ?_
          exact ⟨rfl, zr_in H⟩
    · unfold wpX_sums
      dsimp only
      refine cX _ ?_
      refine br_f (by decide) ?_
      refine dX _ ?_
      refine br_t rfl ?_
      unfold wpY_sums
      dsimp only
      refine cY _ ?_
      refine br_t rfl ?_
      refine dY _ ?_
      refine br_f (by decide) ?_
      exact ⟨rfl, zr_in H⟩
  · unfold wpX_sums
    dsimp only
    refine cX _ ?_
    refine br_t rfl ?_
    unfold wpY_sums
    dsimp only
    refine cY _ ?_
    refine br_f (by decide) ?_
    exact ⟨rfl, zr_in H⟩
theorem i_vc_join {k : Nat} {u : SX} {v : SY} (I : i_Rel k u v) (hk : k + 5 ≤ 2560) (v1 : Int32) (v2 : Int32) (v3 : Int32) : wpX_join (fun r u' => wpY_join (fun r' v' => r' = r ∧ i_Rel (k + 5) u' v') v v1 v2 v3) u v1 v2 v3 := by
  refine zr_el (P := fun u v => wpX_join (fun r u' => wpY_join (fun r' v' => r' = r ∧ i_Rel (k + 5) u' v') v v1 v2 v3) u v1 v2 v3) ?_ I
  intro m pr ls qs sl ks lf rg hw cn mt fr tt st hv th va my W H
  have hm16 := H.1
  by_cases a0 : v1 < 0
  · exact br_t a0 (br_t a0 ⟨rfl, zr_in H⟩)
  · by_cases a1 : nI m ≤ v1
    · exact br_f a0 (br_t a1 (br_f a0 (br_t a1 ⟨rfl, zr_in H⟩)))
    · by_cases b0 : v3 < 0
      · exact br_f a0 (br_f a1 (br_t b0 (br_f a0 (br_f a1 (br_t b0 ⟨rfl, zr_in H⟩)))))
      · by_cases b1 : nI m ≤ v3
        · exact br_f a0 (br_f a1 (br_f b0 (br_t b1 (br_f a0 (br_f a1 (br_f b0 (br_t b1 ⟨rfl, zr_in H⟩)))))))
        · by_cases q0 : v2 < 0
          · exact br_f a0 (br_f a1 (br_f b0 (br_f b1 (br_t q0 (br_f a0 (br_f a1 (br_f b0 (br_f b1 (br_t q0 ⟨rfl, zr_in H⟩)))))))))
          · by_cases q3 : v2 ≤ 3
            · obtain ⟨x, hx, rfl⟩ := nI_of a0
              obtain ⟨y, hy, rfl⟩ := nI_of b0
              have hxm : x < m := by
                rw [nI_leI (by omega) hx] at a1
                omega
              have hym : y < m := by
                rw [nI_leI (by omega) hy] at b1
                omega
              rcases Nat.lt_or_ge m 16 with hm | hm
              · refine br_f a0 (br_f a1 (br_f b0 (br_f b1 (br_f q0 (br_t q3 (zx_mk hm ?_))))))
                refine br_f a0 (br_f a1 (br_f b0 (br_f b1 (br_f q0 (br_t q3 (zy_mk hm ?_))))))
                exact ⟨rfl, zr_in (zr_new H hm (Or.inl ⟨rfl, x, y, hxm, hym, rfl, rfl⟩))⟩
              · have hm' : m = 16 := by omega
                refine br_f a0 (br_f a1 (br_f b0 (br_f b1 (br_f q0 (br_t q3 (zx_mkN hm' ?_))))))
                refine br_f a0 (br_f a1 (br_f b0 (br_f b1 (br_f q0 (br_t q3 (zy_mkN hm' ?_))))))
                exact ⟨rfl, zr_in H⟩
            · exact br_f a0 (br_f a1 (br_f b0 (br_f b1 (br_f q0 (br_f q3 (br_f a0 (br_f a1 (br_f b0 (br_f b1 (br_f q0 (br_f q3 ⟨rfl, zr_in H⟩)))))))))))
theorem i_vc_clear {k : Nat} {u : SX} {v : SY} (I : i_Rel k u v) (hk : k + 5 ≤ 2560) : wpX_clear (fun u' => wpY_clear (fun v' => i_Rel (k + 5) u' v') v) u := by
  refine zr_el (P := fun u v => wpX_clear (fun u' => wpY_clear (fun v' => i_Rel (k + 5) u' v') v) u) ?_ I
  intro m pr ls qs sl ks lf rg hw cn mt fr tt st hv th va my W H
  refine zx_fg (fun f hf => ?_)
  exact ⟨0, W, rfl, rfl, rfl, rfl, rfl, rfl, rfl, by omega, H.2.1, H.2.2.1, H.2.2.2.1, fun i hi => absurd hi (Nat.not_lt_zero _), fun i hi => absurd hi (Nat.not_lt_zero _)⟩
theorem i_vc_count {k : Nat} {u : SX} {v : SY} (I : i_Rel k u v) (hk : k + 5 ≤ 2560) (v1 : Int32) : wpX_count (fun r u' => wpY_count (fun r' v' => r' = r ∧ i_Rel (k + 5) u' v') v v1) u v1 := by
  refine zr_el (P := fun u v => wpX_count (fun r u' => wpY_count (fun r' v' => r' = r ∧ i_Rel (k + 5) u' v') v v1) u v1) ?_ I
  intro m pr ls qs sl ks lf rg hw cn mt fr tt st hv th va my W H
  rcases zr_cnd (pr := pr) (ls := ls) (qs := qs) (sl := sl) (mt := mt) (tt := tt) (st := st) (hv := hv) (ks := ks) (lf := lf) (rg := rg) (hw := hw) (cn := cn) (fr := fr) (th := th) (va := va) H.1 v1 with ⟨hcv, nX, nY⟩ | ⟨nX, nY⟩
  · unfold wpX_count
    dsimp only
    refine nX _ ?_
    refine br_f (by decide) ?_
    refine zx_ro (W := W) H.1 hcv (zr_W H) H.2.2.1 H.2.2.2.2.1 H.2.2.2.2.2 (fun v l e t mt fr hv1 hM => ?_)
    refine zo_ones _ ?_
    rw [zc_cg hv1]
    unfold wpY_count
    dsimp only
    refine nY _ my ?_
    refine br_t rfl ?_
    exact zy_ct (zr_H H hcv) (fun my => ⟨rfl, zr_in (zr_mt H hM)⟩)
  · unfold wpX_count
    dsimp only
    refine nX _ ?_
    refine br_t rfl ?_
    unfold wpY_count
    dsimp only
    refine nY _ my ?_
    refine br_f (by decide) ?_
    exact ⟨rfl, zr_in H⟩
theorem i_vc_row {k : Nat} {u : SX} {v : SY} (I : i_Rel k u v) (hk : k + 5 ≤ 2560) (v1 : Int32) (v2 : Int32) : wpX_row (fun r u' => wpY_row (fun r' v' => r' = r ∧ i_Rel (k + 5) u' v') v v1 v2) u v1 v2 := by
  refine zr_el (P := fun u v => wpX_row (fun r u' => wpY_row (fun r' v' => r' = r ∧ i_Rel (k + 5) u' v') v v1 v2) u v1 v2) ?_ I
  intro m pr ls qs sl ks lf rg hw cn mt fr tt st hv th va my W H
  rcases zr_cnd (pr := pr) (ls := ls) (qs := qs) (sl := sl) (mt := mt) (tt := tt) (st := st) (hv := hv) (ks := ks) (lf := lf) (rg := rg) (hw := hw) (cn := cn) (fr := fr) (th := th) (va := va) H.1 v1 with ⟨hcv, nX, nY⟩ | ⟨nX, nY⟩
  · unfold wpX_row
    dsimp only
    refine nX _ ?_
    refine br_f (by decide) ?_
    by_cases h0 : 0 ≤ v2
    · refine br_t h0 ?_
      obtain ⟨p, hp, rfl⟩ := nI_of (Int32.not_lt.mpr h0)
      refine zx_ro (W := W) H.1 hcv (zr_W H) H.2.2.1 H.2.2.2.2.1 H.2.2.2.2.2 (fun v l e t mt fr hv1 hM => ?_)
      refine zo_ones _ ?_
      rw [zc_cg hv1]
      have el := zc_le (zm_S pr ks lf rg hw cn W v1) 64
      refine pk_lt p _ (fun hlt => ⟨7, ?_⟩) (fun hge => ?_)
      · refine zx_rwL hv1 (fun low hl h1 h2 => ?_) 6 7 0 p (by omega) (by omega) (by decide) (Nat.zero_add _) hlt
        unfold wpY_row
        dsimp only
        refine nY _ my ?_
        refine br_t rfl ?_
        exact zy_rw (zr_H H hcv) hl h1 h2 (fun my => ⟨rfl, zr_in (zr_mt H hM)⟩)
      · unfold wpY_row
        dsimp only
        refine nY _ my ?_
        refine br_t rfl ?_
        refine zy_rn (zr_H H hcv) (fun i hi e => ?_) (fun my => ⟨rfl, zr_in (zr_mt H hM)⟩)
        rw [nI_eq (by omega) hp] at e
        omega
    · refine br_f h0 ?_
      unfold wpY_row
      dsimp only
      refine nY _ my ?_
      refine br_t rfl ?_
      refine zy_rn (zr_H H hcv) (fun i hi e => ?_) (fun my => ⟨rfl, zr_in H⟩)
      have el := zc_le (zm_S pr ks lf rg hw cn W v1) 64
      exact h0 (e ▸ nI_pos' (by omega))
  · unfold wpX_row
    dsimp only
    refine nX _ ?_
    refine br_t rfl ?_
    unfold wpY_row
    dsimp only
    refine nY _ my ?_
    refine br_f (by decide) ?_
    exact ⟨rfl, zr_in H⟩
theorem i_vc_sum {k : Nat} {u : SX} {v : SY} (I : i_Rel k u v) (hk : k + 5 ≤ 2560) (v1 : Int32) (v2 : Int32) : wpX_sum (fun r u' => wpY_sum (fun r' v' => r' = r ∧ i_Rel (k + 5) u' v') v v1 v2) u v1 v2 := by
  refine zr_el (P := fun u v => wpX_sum (fun r u' => wpY_sum (fun r' v' => r' = r ∧ i_Rel (k + 5) u' v') v v1 v2) u v1 v2) ?_ I
  intro m pr ls qs sl ks lf rg hw cn mt fr tt st hv th va my W H
  rcases zr_col v2 with ⟨c, hc, rfl, cX, cY⟩ | ⟨cX, cY⟩
  · rcases zr_cnd (pr := pr) (ls := ls) (qs := qs) (sl := sl) (mt := mt) (tt := tt) (st := st) (hv := hv) (ks := ks) (lf := lf) (rg := rg) (hw := hw) (cn := cn) (fr := fr) (th := th) (va := va) H.1 v1 with ⟨hcv, nX, nY⟩ | ⟨nX, nY⟩
    · unfold wpX_sum
      dsimp only
      refine cX _ ?_
      refine br_f (by decide) ?_
      refine nX _ ?_
      refine br_f (by decide) ?_
      refine zx_ro (W := W) H.1 hcv (zr_W H) H.2.2.1 H.2.2.2.2.1 H.2.2.2.2.2 (fun v l e t mt fr hv1 hM => ?_)
      refine zx_sm hc (fun r hr => zr_W H r hr c hc) H.2.2.1 hv1 ?_
      unfold wpY_sum
      dsimp only
      refine nY _ my ?_
      refine br_t rfl ?_
      refine cY _ ?_
      refine br_t rfl ?_
      exact zy_sm hc H.2.2.2.1 (zr_H H hcv) (fun my => ⟨rfl, zr_in (zr_mt H hM)⟩)
    · unfold wpX_sum
      dsimp only
      refine cX _ ?_
      refine br_f (by decide) ?_
      refine nX _ ?_
      refine br_t rfl ?_
      unfold wpY_sum
      dsimp only
      refine nY _ my ?_
      refine br_f (by decide) ?_
      exact ⟨rfl, zr_in H⟩
  · rcases zr_cnd (pr := pr) (ls := ls) (qs := qs) (sl := sl) (mt := mt) (tt := tt) (st := st) (hv := hv) (ks := ks) (lf := lf) (rg := rg) (hw := hw) (cn := cn) (fr := fr) (th := th) (va := va) H.1 v1 with ⟨hcv, nX, nY⟩ | ⟨nX, nY⟩
    · unfold wpX_sum
      dsimp only
      refine cX _ ?_
      refine br_t rfl ?_
      unfold wpY_sum
      dsimp only
      refine nY _ my ?_
      refine br_t rfl ?_
      refine cY _ ?_
      refine br_f (by decide) ?_
      exact ⟨rfl, zr_in H⟩
    · unfold wpX_sum
      dsimp only
      refine cX _ ?_
      refine br_t rfl ?_
      unfold wpY_sum
      dsimp only
      refine nY _ my ?_
      refine br_f (by decide) ?_
      exact ⟨rfl, zr_in H⟩
theorem i_vc_ranked {k : Nat} {u : SX} {v : SY} (I : i_Rel k u v) (hk : k + 5 ≤ 2560) (v1 : Int32) (v2 : Int32) (v3 : Int32) : wpX_ranked (fun r u' => wpY_ranked (fun r' v' => r' = r ∧ i_Rel (k + 5) u' v') v v1 v2 v3) u v1 v2 v3 := by
  refine zr_el (P := fun u v => wpX_ranked (fun r u' => wpY_ranked (fun r' v' => r' = r ∧ i_Rel (k + 5) u' v') v v1 v2 v3) u v1 v2 v3) ?_ I
  intro m pr ls qs sl ks lf rg hw cn mt fr tt st hv th va my W H
  rcases zr_col v2 with ⟨c, hc, rfl, cX, cY⟩ | ⟨cX, cY⟩
  · rcases zr_cnd (pr := pr) (ls := ls) (qs := qs) (sl := sl) (mt := mt) (tt := tt) (st := st) (hv := hv) (ks := ks) (lf := lf) (rg := rg) (hw := hw) (cn := cn) (fr := fr) (th := th) (va := va) H.1 v1 with ⟨hcv, nX, nY⟩ | ⟨nX, nY⟩
    · unfold wpX_ranked
      dsimp only
      refine cX _ ?_
      refine br_f (by decide) ?_
      refine nX _ ?_
      refine br_f (by decide) ?_
      by_cases h0 : 0 ≤ v3
      · refine br_t h0 ?_
        obtain ⟨p, hp, rfl⟩ := nI_of (Int32.not_lt.mpr h0)
        refine zx_ro (W := W) H.1 hcv (zr_W H) H.2.2.1 H.2.2.2.2.1 H.2.2.2.2.2 (fun v l e t mt fr hv1 hM => ?_)
        refine zo_ones _ ?_
        rw [zc_cg hv1]
        have el := zc_le (zm_S pr ks lf rg hw cn W v1) 64
        refine pk_lt p _ (fun hlt => ?_) (fun hge => ?_)
        · refine zx_rk hc (fun r hr => zr_W H r hr c hc) H.2.2.1 hv1 hlt (fun q hq h1 h2 => ?_)
          unfold wpY_ranked
          dsimp only
          refine nY _ my ?_
          refine br_t rfl ?_
          refine cY _ ?_
          refine br_t rfl ?_
          refine br_t h0 ?_
          exact zy_rk hc hp hq H.2.2.2.1 (zr_H H hcv) h1 h2 (fun my => ⟨rfl, zr_in (zr_mt H hM)⟩)
        · unfold wpY_ranked
          dsimp only
          refine nY _ my ?_
          refine br_t rfl ?_
          refine cY _ ?_
          refine br_t rfl ?_
          refine br_t h0 ?_
          exact zy_rkn hc hp H.2.2.2.1 (zr_H H hcv) hge (fun my => ⟨rfl, zr_in (zr_mt H hM)⟩)
      · refine br_f h0 ?_
        unfold wpY_ranked
        dsimp only
        refine nY _ my ?_
        refine br_t rfl ?_
        refine cY _ ?_
        refine br_t rfl ?_
        refine br_f h0 ?_
        exact ⟨rfl, zr_in H⟩
    · unfold wpX_ranked
      dsimp only
      refine cX _ ?_
      refine br_f (by decide) ?_
      refine nX _ ?_
      refine br_t rfl ?_
      unfold wpY_ranked
      dsimp only
      refine nY _ my ?_
      refine br_f (by decide) ?_
      exact ⟨rfl, zr_in H⟩
  · rcases zr_cnd (pr := pr) (ls := ls) (qs := qs) (sl := sl) (mt := mt) (tt := tt) (st := st) (hv := hv) (ks := ks) (lf := lf) (rg := rg) (hw := hw) (cn := cn) (fr := fr) (th := th) (va := va) H.1 v1 with ⟨hcv, nX, nY⟩ | ⟨nX, nY⟩
    · unfold wpX_ranked
      dsimp only
      refine cX _ ?_
      refine br_t rfl ?_
      unfold wpY_ranked
      dsimp only
      refine nY _ my ?_
      refine br_t rfl ?_
      refine cY _ ?_
      refine br_f (by decide) ?_
      exact ⟨rfl, zr_in H⟩
    · unfold wpX_ranked
      dsimp only
      refine cX _ ?_
      refine br_t rfl ?_
      unfold wpY_ranked
      dsimp only
      refine nY _ my ?_
      refine br_f (by decide) ?_
      exact ⟨rfl, zr_in H⟩
theorem i_vc_different {k : Nat} {u : SX} {v : SY} (I : i_Rel k u v) (hk : k + 5 ≤ 2560) (v1 : Int32) (v2 : Int32) : wpX_different (fun r u' => wpY_different (fun r' v' => r' = r ∧ i_Rel (k + 5) u' v') v v1 v2) u v1 v2 := by
  refine zr_el (P := fun u v => wpX_different (fun r u' => wpY_different (fun r' v' => r' = r ∧ i_Rel (k + 5) u' v') v v1 v2) u v1 v2) ?_ I
  intro m pr ls qs sl ks lf rg hw cn mt fr tt st hv th va my W H
  rcases zr_col v2 with ⟨c, hc, rfl, cX, cY⟩ | ⟨cX, cY⟩
  · rcases zr_cnd (pr := pr) (ls := ls) (qs := qs) (sl := sl) (mt := mt) (tt := tt) (st := st) (hv := hv) (ks := ks) (lf := lf) (rg := rg) (hw := hw) (cn := cn) (fr := fr) (th := th) (va := va) H.1 v1 with ⟨hcv, nX, nY⟩ | ⟨nX, nY⟩
    · unfold wpX_different
      dsimp only
      refine cX _ ?_
      refine br_f (by decide) ?_
      refine nX _ ?_
      refine br_f (by decide) ?_
      refine zx_ro (W := W) H.1 hcv (zr_W H) H.2.2.1 H.2.2.2.2.1 H.2.2.2.2.2 (fun v l e t mt fr hv1 hM => ?_)
      have eF : zc_ct (fun u => decide (0 < zc_ct (za_eq (zm_S pr ks lf rg hw cn W v1) (fun r => W r c) 0 u) 64)) 256 = za_F (fun r => W r c) 0 v := by
        refine zc_cg (fun u _ => ?_)
        rw [zc_cg (f := za_eq (zm_S pr ks lf rg hw cn W v1) (fun r => W r c) 0 u) (g := za_eq (zl_b v) (fun r => W r c) 0 u) (fun r hr => ?_)]
        unfold za_eq
        rw [hv1 r hr]
      have fin : ∀ s h : Nat → Int64, wpY_different (fun r' v' => r' = nI (za_F (fun r => W r c) 0 v) ∧ i_Rel (k + 5) (pr, nI m, l, e, sl, ks, lf, rg, hw, cn, mt, fr, t, s, h) v') (nI m, th, va, ks, lf, rg, hw, cn, my) v1 (nI c) := fun s h => by
        rw [← eF]
        unfold wpY_different
        dsimp only
        refine nY _ my ?_
        refine br_t rfl ?_
        refine cY _ ?_
        refine br_t rfl ?_
        exact zy_df hc H.2.2.2.1 (zr_H H hcv) (fun my => ⟨rfl, zr_in (zr_mt H hM)⟩)
      refine nm_e ?_
      have es : vp_updL st 0 v 0 = v := pk_uLs
      rw [es]
      refine br_c (fun hz => ⟨9, ?_⟩) (fun hz => ⟨9, ?_⟩)
      · refine zx_dfL (T := za_F (fun r => W r c) 0 v) hc (fun r hr => zr_W H r hr c hc) H.2.2.1 fin 9 0 0 _ hv (by omega) (by omega) (by omega) (fun j hj => absurd hj (Nat.not_lt_zero _)) (Nat.zero_le 64) ?_
        rw [hz, za_F0]; rfl
      · refine zx_dfL (T := za_F (fun r => W r c) 0 v) hc (fun r hr => zr_W H r hr c hc) H.2.2.1 fin 9 0 1 _ hv (by omega) (by omega) (by omega) (fun j hj => ?_) ?_ ?_
        · rw [show j = 0 by omega, es]; exact hz
        · show 0 + za_P (vp_updL st 0 v 0) ≤ 64
          rw [es]
          have := zc_le (zl_b v) 64
          unfold za_P
          omega
        · show 0 + za_F (fun r => W r c) 0 (vp_updL st 0 v 0) = _
          rw [es, Nat.zero_add]
    · unfold wpX_different
      dsimp only
      refine cX _ ?_
      refine br_f (by decide) ?_
      refine nX _ ?_
      refine br_t rfl ?_
      unfold wpY_different
      dsimp only
      refine nY _ my ?_
      refine br_f (by decide) ?_
      exact ⟨rfl, zr_in H⟩
  · rcases zr_cnd (pr := pr) (ls := ls) (qs := qs) (sl := sl) (mt := mt) (tt := tt) (st := st) (hv := hv) (ks := ks) (lf := lf) (rg := rg) (hw := hw) (cn := cn) (fr := fr) (th := th) (va := va) H.1 v1 with ⟨hcv, nX, nY⟩ | ⟨nX, nY⟩
    · unfold wpX_different
      dsimp only
      refine cX _ ?_
      refine br_t rfl ?_
      unfold wpY_different
      dsimp only
      refine nY _ my ?_
      refine br_t rfl ?_
      refine cY _ ?_
      refine br_f (by decide) ?_
      exact ⟨rfl, zr_in H⟩
    · unfold wpX_different
      dsimp only
      refine cX _ ?_
      refine br_t rfl ?_
      unfold wpY_different
      dsimp only
      refine nY _ my ?_
      refine br_f (by decide) ?_
      exact ⟨rfl, zr_in H⟩
end
