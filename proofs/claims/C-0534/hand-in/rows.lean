section
theorem pk_us {f : Nat → Int32} {k : Nat} {x : Int32} : upd f k x k = x := if_pos rfl
theorem pk_un {f : Nat → Int32} {k j : Nat} {x : Int32} (h : j ≠ k) : upd f k x j = f j := if_neg h
theorem pk_uLs {f : Nat → Int64} {k : Nat} {x : Int64} : vp_updL f k x k = x := if_pos rfl
theorem pk_uLn {f : Nat → Int64} {k j : Nat} {x : Int64} (h : j ≠ k) : vp_updL f k x j = f j := if_neg h
theorem pk_sub {a b : Nat} (h : b ≤ a) : nI a - nI b = nI (a - b) := by
  obtain ⟨c, rfl⟩ : ∃ c, a = c + b := ⟨a - b, by omega⟩
  rw [← nI_add, Int32.add_sub_cancel, Nat.add_sub_cancel]
theorem pk_m1 (n : Nat) : nI (n + 1) + (-1) = nI n := by
  rw [← nI_1, Int32.add_assoc, show (1 : Int32) + (-1) = 0 from rfl, Int32.add_zero]
theorem pk_mul (a b : Nat) : nI a * nI b = nI (a * b) := (Int32.ofNat_mul a b).symm
theorem pk_div {a d : Nat} (ha : a < 2 ^ 31) (h0 : 0 < d) (hd : d < 2 ^ 31) : nI a / nI d = nI (a / d) := by
  apply Int32.toInt_inj.mp
  rw [lg_idiv_nonneg (by rw [nI_toInt ha]; omega) (by rw [nI_toInt hd]; omega), nI_toInt ha, nI_toInt hd, nI_toInt (Nat.lt_of_le_of_lt (Nat.div_le_self a d) ha)]
  first | rfl | exact (Int.natCast_ediv _ _).symm
theorem pk_rem {a d : Nat} (ha : a < 2 ^ 31) (h0 : 0 < d) (hd : d < 2 ^ 31) : nI a - nI a / nI d * nI d = nI (a % d) := by
  rw [pk_div ha h0 hd, pk_mul, pk_sub (Nat.div_mul_le_self a d)]
  exact congrArg nI (by have := Nat.div_add_mod' a d; omega)
theorem pk_sub_toInt {a b : Nat} (ha : a < 2 ^ 30) (hb : b < 2 ^ 30) : (nI a - nI b).toInt = (a : Int) - b := by
  rw [Int32.toInt_sub, nI_toInt (by omega), nI_toInt (by omega)]
  exact Int.bmod_eq_of_le (by omega) (by omega)
theorem pk_sneg {a b : Nat} (hb : b < 2 ^ 30) (h : a < b) : nI a - nI b < 0 := by
  rw [Int32.lt_iff_toInt_lt, pk_sub_toInt (by omega) hb, show (0 : Int32).toInt = 0 from by decide]
  omega
theorem pk_ix (x : Int32) {n : Nat} (hn : n < 2 ^ 31) : x < 0 ∨ nI n ≤ x ∨ ∃ j : Nat, j < n ∧ x = nI j := by
  by_cases h : x < 0
  · exact Or.inl h
  · obtain ⟨j, hj, rfl⟩ := nI_of h
    by_cases h2 : j < n
    · exact Or.inr (Or.inr ⟨j, h2, rfl⟩)
    · exact Or.inr (Or.inl (nI_le (by omega) hj))
theorem pk_le {x y : Int32} {A B : Prop} (a b : Nat) (f : a ≤ b → A) (g : b < a → B) (hx : x = nI a := by rfl) (hy : y = nI b := by rfl) (ha : a < 2 ^ 31 := by omega) (hb : b < 2 ^ 31 := by omega) : (x ≤ y → A) ∧ (¬ x ≤ y → B) := by
  subst hx hy
  rw [nI_leI ha hb]
  exact ⟨f, fun z => g (by omega)⟩
theorem pk_lt {x y : Int32} {A B : Prop} (a b : Nat) (f : a < b → A) (g : b ≤ a → B) (hx : x = nI a := by rfl) (hy : y = nI b := by rfl) (ha : a < 2 ^ 31 := by omega) (hb : b < 2 ^ 31 := by omega) : (x < y → A) ∧ (¬ x < y → B) := by
  subst hx hy
  rw [nI_ltI ha hb]
  exact ⟨f, fun z => g (by omega)⟩
theorem pk_eq {x y : Int32} {A B : Prop} (a b : Nat) (f : a = b → A) (g : a ≠ b → B) (hx : x = nI a := by rfl) (hy : y = nI b := by rfl) (ha : a < 2 ^ 31 := by omega) (hb : b < 2 ^ 31 := by omega) : (x = y → A) ∧ (¬ x = y → B) := by
  subst hx hy
  rw [nI_eq ha hb]
  exact ⟨f, g⟩
theorem pk_in {x : Int32} (n N : Nat) (h : n < N) (hx : x = nI n := by rfl) (hN : N < 2 ^ 31 := by omega) : vp_in x N := by
  subst hx
  exact vp_in_nI h hN
theorem pk_cl {x : Int32} (n : Nat) (hx : x = nI n := by rfl) (h : n < 2 ^ 31 := by omega) : x.toNatClampNeg = n := by
  subst hx
  exact nI_clamp h
theorem pk_tn {n : Nat} (h : n < 2 ^ 32) : (nI n).toBitVec.toNat = n := Nat.mod_eq_of_lt h
theorem pk_and (x : Int32) {m : Int32} (k : Nat) (hm : m.toBitVec.toNat = 2 ^ k - 1) : x &&& m = nI (x.toBitVec.toNat % 2 ^ k) := by
  apply Int32.toBitVec_inj.mp
  apply BitVec.eq_of_toNat_eq
  rw [Int32.toBitVec_and, BitVec.toNat_and, hm, Nat.and_two_pow_sub_one_eq_mod]
  show _ = (BitVec.ofNat 32 _).toNat
  rw [BitVec.toNat_ofNat]
  exact (Nat.mod_eq_of_lt (Nat.lt_of_le_of_lt (Nat.mod_le _ _) x.toBitVec.isLt)).symm
theorem pk_andN {n : Nat} (h : n < 2 ^ 32) {m : Int32} (k : Nat) (hm : m.toBitVec.toNat = 2 ^ k - 1) : nI n &&& m = nI (n % 2 ^ k) := by
  rw [pk_and _ k hm, pk_tn h]
theorem pk_andE (x : Int32) {m : Int32} (k : Nat) (hm : m.toBitVec.toNat = 2 ^ k - 1) : ∃ j : Nat, j < 2 ^ k ∧ x &&& m = nI j := ⟨_, Nat.mod_lt _ (Nat.two_pow_pos k), pk_and x k hm⟩
theorem pk_andIn (x : Int32) {m : Int32} (k : Nat) (hm : m.toBitVec.toNat = 2 ^ k - 1) (hk : k ≤ 30) : vp_in (x &&& m) (2 ^ k) := by
  obtain ⟨j, hj, e⟩ := pk_andE x k hm
  rw [e]
  exact vp_in_nI hj (Nat.lt_of_le_of_lt (Nat.pow_le_pow_right (by decide) hk) (by decide))
theorem pk_shl (a s : Int32) (k : Nat) (hs : (s.toBitVec.smod 32).toNat = k) : (a <<< s).toBitVec.toNat = a.toBitVec.toNat * 2 ^ k % 2 ^ 32 := by
  show (a.toBitVec <<< (s.toBitVec.smod 32).toNat).toNat = _
  rw [hs, BitVec.toNat_shiftLeft, Nat.shiftLeft_eq]
theorem pk_shlN {n : Nat} (s : Int32) (k : Nat) (hs : (s.toBitVec.smod 32).toNat = k) (h : n * 2 ^ k < 2 ^ 32) : nI n <<< s = nI (n * 2 ^ k) := by
  apply Int32.toBitVec_inj.mp
  apply BitVec.eq_of_toNat_eq
  have hn : n < 2 ^ 32 := Nat.lt_of_le_of_lt (Nat.le_mul_of_pos_right n (Nat.two_pow_pos k)) h
  rw [pk_shl _ _ k hs, pk_tn hn, pk_tn h, Nat.mod_eq_of_lt h]
theorem pk_shr (a s : Int32) (k : Nat) (hs : (s.toBitVec.smod 32).toNat = k) : (a >>> s).toInt = a.toInt >>> k := by
  show (a.toBitVec.sshiftRight (s.toBitVec.smod 32).toNat).toInt = _
  rw [hs, BitVec.toInt_sshiftRight]
  rfl
theorem pk_shrN {n : Nat} (h : n < 2 ^ 31) (s : Int32) (k : Nat) (hs : (s.toBitVec.smod 32).toNat = k) : nI n >>> s = nI (n / 2 ^ k) := by
  apply Int32.toInt_inj.mp
  have h2 : n / 2 ^ k ≤ n := Nat.div_le_self _ _
  rw [pk_shr _ _ k hs, nI_toInt h, nI_toInt (by omega), Int.shiftRight_eq_div_pow]
  rfl
theorem pk_ushr (x s : Int32) (k : Nat) (hs : ((s.toUInt32 &&& Int32.toUInt32 31).toBitVec % 32).toNat = k) : (x.toUInt32 >>> (s.toUInt32 &&& Int32.toUInt32 31)).toInt32.toBitVec.toNat = x.toBitVec.toNat / 2 ^ k := by
  have e : (x.toUInt32 >>> (s.toUInt32 &&& Int32.toUInt32 31)).toInt32.toBitVec = x.toBitVec >>> k := by
    rw [← hs]
    exact UInt32.toBitVec_shiftRight _ _
  rw [e, BitVec.toNat_ushiftRight, Nat.shiftRight_eq_div_pow]
theorem pk_ushrN {n : Nat} (hn : n < 2 ^ 32) (s : Int32) (k : Nat) (hs : ((s.toUInt32 &&& Int32.toUInt32 31).toBitVec % 32).toNat = k) : ((nI n).toUInt32 >>> (s.toUInt32 &&& Int32.toUInt32 31)).toInt32 = nI (n / 2 ^ k) := by
  apply Int32.toBitVec_inj.mp
  apply BitVec.eq_of_toNat_eq
  rw [pk_ushr _ s k hs, pk_tn hn, pk_tn (Nat.lt_of_le_of_lt (Nat.div_le_self _ _) hn)]
/-! ===== Int32 by its bits: bt x i ===== -/
def bt (x : Int32) (i : Nat) : Bool := x.toBitVec.getLsbD i
theorem b_ext {x y : Int32} (h : ∀ i, i < 32 → bt x i = bt y i) : x = y := Int32.toBitVec_inj.mp (BitVec.eq_of_getLsbD_eq (fun i hi => h i hi))
theorem b_or (x y : Int32) (i : Nat) : bt (x ||| y) i = (bt x i || bt y i) := by unfold bt; rw [Int32.toBitVec_or, BitVec.getLsbD_or]
theorem b_and (x y : Int32) (i : Nat) : bt (x &&& y) i = (bt x i && bt y i) := by unfold bt; rw [Int32.toBitVec_and, BitVec.getLsbD_and]
theorem b_xor (x y : Int32) (i : Nat) : bt (x ^^^ y) i = (bt x i ^^ bt y i) := by unfold bt; rw [Int32.toBitVec_xor, BitVec.getLsbD_xor]
theorem b_big {x : Int32} {i : Nat} (h : 32 ≤ i) : bt x i = false := BitVec.getLsbD_of_ge _ _ h
theorem b_255 (i : Nat) : bt 255 i = decide (i < 8) := by
  rcases Nat.lt_or_ge i 32 with h | h
  · exact (by decide +kernel : ∀ i, i < 32 → bt 255 i = decide (i < 8)) i h
  · rw [b_big h, decide_eq_false (by omega)]
theorem b_65535 (i : Nat) : bt 65535 i = decide (i < 16) := by
  rcases Nat.lt_or_ge i 32 with h | h
  · exact (by decide +kernel : ∀ i, i < 32 → bt 65535 i = decide (i < 16)) i h
  · rw [b_big h, decide_eq_false (by omega)]
theorem b_m1 : ∀ i, i < 32 → bt (-1) i = true := by decide +kernel
theorem b_0 (i : Nat) : bt 0 i = false := BitVec.getLsbD_zero
theorem s_l : ∀ n, n < 32 → ((nI n &&& 31).toBitVec.smod 32).toNat = n := by decide +kernel
theorem s_u : ∀ n, n < 32 → (((nI n).toUInt32 &&& Int32.toUInt32 31).toBitVec % 32).toNat = n := by decide +kernel
theorem b_shl (n : Nat) (hn : n < 32) (x : Int32) {i : Nat} (hi : i < 32) : bt (x <<< (nI n &&& 31)) i = (decide (n ≤ i) && bt x (i - n)) := by
  unfold bt
  rw [Int32.toBitVec_shiftLeft]
  show (x.toBitVec <<< ((nI n &&& 31).toBitVec.smod 32).toNat).getLsbD i = _
  rw [s_l n hn, BitVec.getLsbD_shiftLeft]
  rcases Nat.lt_or_ge i n with h | h
  · simp [h, Nat.not_le.mpr h]
  · simp [hi, h, Nat.not_lt.mpr h]
theorem b_ushr (n : Nat) (hn : n < 32) (x : Int32) (i : Nat) : bt ((x.toUInt32 >>> ((nI n).toUInt32 &&& Int32.toUInt32 31)).toInt32) i = bt x (n + i) := by
  show (x.toUInt32 >>> ((nI n).toUInt32 &&& Int32.toUInt32 31)).toBitVec.getLsbD i = x.toUInt32.toBitVec.getLsbD (n + i)
  rw [UInt32.toBitVec_shiftRight]
  show (x.toUInt32.toBitVec >>> (((nI n).toUInt32 &&& Int32.toUInt32 31).toBitVec % 32).toNat).getLsbD i = _
  rw [s_u n hn, BitVec.getLsbD_ushiftRight]
theorem b_sshr (n : Nat) (hn : n < 32) (x : Int32) {i : Nat} (hi : i < 32) : bt (x >>> (nI n &&& 31)) i = if n + i < 32 then bt x (n + i) else bt x 31 := by
  unfold bt
  rw [Int32.toBitVec_shiftRight]
  show (x.toBitVec.sshiftRight ((nI n &&& 31).toBitVec.smod 32).toNat).getLsbD i = _
  rw [s_l n hn, BitVec.getLsbD_sshiftRight, BitVec.msb_eq_getLsbD_last]
  simp [hi]
theorem b_shl8 (x : Int32) {i : Nat} (hi : i < 32) : bt (x <<< ((8 : Int32) &&& 31)) i = (decide (8 ≤ i) && bt x (i - 8)) := b_shl 8 (by omega) x hi
theorem b_shl16 (x : Int32) {i : Nat} (hi : i < 32) : bt (x <<< ((16 : Int32) &&& 31)) i = (decide (16 ≤ i) && bt x (i - 16)) := b_shl 16 (by omega) x hi
theorem b_shl24 (x : Int32) {i : Nat} (hi : i < 32) : bt (x <<< ((24 : Int32) &&& 31)) i = (decide (24 ≤ i) && bt x (i - 24)) := b_shl 24 (by omega) x hi
theorem b_sshr8 (x : Int32) {i : Nat} (hi : i < 32) : bt (x >>> ((8 : Int32) &&& 31)) i = if 8 + i < 32 then bt x (8 + i) else bt x 31 := b_sshr 8 (by omega) x hi
/-! ===== nI under and, xor, >>>, one bit, 65535 ===== -/
theorem nx_and (a b : Nat) : nI a &&& nI b = nI (a &&& b) := by
  apply Int32.toBitVec_inj.1
  show BitVec.ofNat 32 a &&& BitVec.ofNat 32 b = BitVec.ofNat 32 (a &&& b)
  apply BitVec.eq_of_getLsbD_eq
  intro i hi
  simp [hi]
theorem nx_xor (a b : Nat) : nI a ^^^ nI b = nI (a ^^^ b) := by
  apply Int32.toBitVec_inj.1
  show BitVec.ofNat 32 a ^^^ BitVec.ofNat 32 b = BitVec.ofNat 32 (a ^^^ b)
  apply BitVec.eq_of_getLsbD_eq
  intro i hi
  simp [hi]
theorem nx_cnt : ∀ j : Fin 32, (UInt32.ofNat j.val &&& Int32.toUInt32 31).toNat % 32 = j.val := by decide +kernel
theorem nx_ush {k j : Nat} (hk : k < 65536) (hj : j < 32) : ((nI k).toUInt32 >>> ((nI j).toUInt32 &&& Int32.toUInt32 31)).toInt32 = nI (k >>> j) := by
  have hs : k >>> j ≤ k := by
    rw [Nat.shiftRight_eq_div_pow]
    exact Nat.div_le_self _ _
  have e2 : UInt32.ofNat k >>> (UInt32.ofNat j &&& Int32.toUInt32 31) = UInt32.ofNat (k >>> j) := by
    apply UInt32.toNat_inj.1
    have h1 : (UInt32.ofNat k).toNat = k := Nat.mod_eq_of_lt (by omega)
    have h2 : (UInt32.ofNat (k >>> j)).toNat = k >>> j := Nat.mod_eq_of_lt (by omega)
    rw [UInt32.toNat_shiftRight, nx_cnt ⟨j, hj⟩, h1, h2]
  show (UInt32.ofNat k >>> (UInt32.ofNat j &&& Int32.toUInt32 31)).toInt32 = _
  rw [e2]
  rfl
theorem nx_bit {k j : Nat} (hk : k < 65536) (hj : j < 16) : (((nI k).toUInt32 >>> ((nI j).toUInt32 &&& Int32.toUInt32 31)).toInt32 &&& 1) = 0 ↔ k.testBit j = false := by
  rw [nx_ush hk (by omega)]
  show nI (k >>> j) &&& nI 1 = 0 ↔ _
  rw [nx_and, Nat.and_one_is_mod, ← nI_0, nI_eq (by omega) (by omega), Nat.testBit_eq_decide_div_mod_eq, Nat.shiftRight_eq_div_pow, decide_eq_false_iff_not]
  generalize k / 2 ^ j = z
  omega
theorem nx_mod (k : Nat) : nI k &&& 65535 = nI (k % 65536) := by
  show nI k &&& nI 65535 = _
  rw [nx_and, show (65535 : Nat) = 2 ^ 16 - 1 from rfl, Nat.and_two_pow_sub_one_eq_mod]
theorem nx_m16 {k : Nat} (h : k < 65536) : nI k &&& 65535 = nI k := by rw [nx_mod, Nat.mod_eq_of_lt h]
theorem nx_mask (x : Int32) : ∃ k, k < 65536 ∧ x &&& 65535 = nI k := by
  have e : x = nI x.toBitVec.toNat := by
    apply Int32.toBitVec_inj.1
    show x.toBitVec = BitVec.ofNat 32 x.toBitVec.toNat
    simp
  refine ⟨x.toBitVec.toNat % 65536, Nat.mod_lt _ (by omega), ?_⟩
  rw [← nx_mod, ← e]
/-! ===== lN n to 2^64: shifts, and, or, masks, one bit ===== -/
theorem wb_tb (n : Nat) : (lN n).toBitVec = BitVec.ofNat 64 n := rfl
theorem wb_inj {a b : Int64} (h : a.toBitVec = b.toBitVec) : a = b := Int64.toBitVec_inj.mp h
theorem wb_tn {n : Nat} (h : n < 2 ^ 64) : (lN n).toBitVec.toNat = n := by rw [wb_tb, BitVec.toNat_ofNat, Nat.mod_eq_of_lt h]
theorem wb_of (x : Int64) : ∃ n, n < 2 ^ 64 ∧ x = lN n := ⟨x.toBitVec.toNat, x.toBitVec.isLt, wb_inj (by rw [wb_tb]; simp)⟩
theorem wb_of32 (x : Int32) : ∃ n, n < 2 ^ 32 ∧ x = nI n := ⟨x.toBitVec.toNat, x.toBitVec.isLt, Int32.toBitVec_inj.mp (by show _ = BitVec.ofNat 32 _; simp)⟩
theorem wb_c : ∀ k, k < 64 → ((nI k).toInt64 &&& 63) = lN k := by decide +kernel
theorem wb_cu : ∀ k, k < 64 → ((nI k).toInt64.toUInt64 &&& Int64.toUInt64 63) = UInt64.ofNat k := by decide +kernel
theorem wb_sm : ∀ k, k < 64 → (BitVec.ofNat 64 k).smod 64 = BitVec.ofNat 64 k := by decide +kernel
theorem wb_pw {a b : Nat} (h : a ≤ b) : 2 ^ b = 2 ^ a * 2 ^ (b - a) := by rw [← Nat.pow_add]; congr 1; omega
theorem wb_lt2 {a b : Nat} (h : a < b) : 2 ^ a < 2 ^ b := Nat.pow_lt_pow_right (by decide) h
theorem wb_mod (n : Nat) : lN n = lN (n % 2 ^ 64) := wb_inj (by rw [wb_tb, wb_tb]; apply BitVec.eq_of_toNat_eq; rw [BitVec.toNat_ofNat, BitVec.toNat_ofNat, Nat.mod_mod])
theorem wb_shr {n k : Nat} (hn : n < 2 ^ 64) (hk : k < 64) : ((lN n).toUInt64 >>> ((nI k).toInt64.toUInt64 &&& Int64.toUInt64 63)).toInt64 = lN (n / 2 ^ k) := by
  rw [wb_cu k hk]
  apply wb_inj
  apply BitVec.eq_of_toNat_eq
  show ((lN n).toUInt64 >>> UInt64.ofNat k).toNat = (BitVec.ofNat 64 _).toNat
  have h1 : (UInt64.ofNat k).toNat = k := by
    show (BitVec.ofNat 64 k).toNat = k
    rw [BitVec.toNat_ofNat, Nat.mod_eq_of_lt (by omega)]
  have h2 : (lN n).toUInt64.toNat = n := wb_tn hn
  rw [UInt64.toNat_shiftRight, h1, h2, Nat.mod_eq_of_lt hk, Nat.shiftRight_eq_div_pow, BitVec.toNat_ofNat, Nat.mod_eq_of_lt (Nat.lt_of_le_of_lt (Nat.div_le_self _ _) hn)]
theorem wb_shl (n : Nat) {k : Nat} (hk : k < 64) : lN n <<< ((nI k).toInt64 &&& 63) = lN (n * 2 ^ k) := by
  rw [wb_c k hk]
  apply wb_inj
  rw [Int64.toBitVec_shiftLeft, wb_tb, wb_tb, wb_tb, wb_sm k hk]
  apply BitVec.eq_of_toNat_eq
  rw [BitVec.shiftLeft_eq', BitVec.toNat_shiftLeft, BitVec.toNat_ofNat, BitVec.toNat_ofNat, BitVec.toNat_ofNat, Nat.mod_eq_of_lt (show k < 2 ^ 64 by omega), Nat.shiftLeft_eq, Nat.mul_mod, Nat.mod_mod, ← Nat.mul_mod]
theorem wb_and {a b : Nat} (ha : a < 2 ^ 64) (hb : b < 2 ^ 64) : lN a &&& lN b = lN (a &&& b) := by
  apply wb_inj
  rw [Int64.toBitVec_and, wb_tb, wb_tb, wb_tb]
  apply BitVec.eq_of_toNat_eq
  rw [BitVec.toNat_and, BitVec.toNat_ofNat, BitVec.toNat_ofNat, BitVec.toNat_ofNat, Nat.mod_eq_of_lt ha, Nat.mod_eq_of_lt hb, Nat.mod_eq_of_lt (Nat.and_lt_two_pow _ hb)]
theorem wb_or {a b : Nat} (ha : a < 2 ^ 64) (hb : b < 2 ^ 64) : lN a ||| lN b = lN (a ||| b) := by
  apply wb_inj
  rw [Int64.toBitVec_or, wb_tb, wb_tb, wb_tb]
  apply BitVec.eq_of_toNat_eq
  rw [BitVec.toNat_or, BitVec.toNat_ofNat, BitVec.toNat_ofNat, BitVec.toNat_ofNat, Nat.mod_eq_of_lt ha, Nat.mod_eq_of_lt hb, Nat.mod_eq_of_lt (Nat.or_lt_two_pow ha hb)]
theorem wb_mask {n k : Nat} (hn : n < 2 ^ 64) (hk : k < 64) : lN n &&& lN (2 ^ k - 1) = lN (n % 2 ^ k) := by
  rw [wb_and hn (by have := wb_lt2 hk; omega), Nat.and_two_pow_sub_one_eq_mod]
theorem wb_a1 {n : Nat} (hn : n < 2 ^ 64) : lN n &&& 1 = lN (n % 2) := wb_mask (k := 1) hn (by decide)
theorem wb_bit {n k : Nat} (hn : n < 2 ^ 64) (hk : k < 64) : ((lN n).toUInt64 >>> ((nI k).toInt64.toUInt64 &&& Int64.toUInt64 63)).toInt64 &&& 1 = lN (n / 2 ^ k % 2) := by
  rw [wb_shr hn hk, wb_a1 (Nat.lt_of_le_of_lt (Nat.div_le_self _ _) hn)]
theorem wb_xor {q k : Nat} (hk : k < 63) (h : 2 ^ k ≤ q) (h2 : q < 2 ^ (k + 1)) : lN q ^^^ lN (2 ^ k) = lN (q - 2 ^ k) := by
  obtain ⟨r, rfl⟩ : ∃ r, q = 2 ^ k + r := ⟨q - 2 ^ k, by omega⟩
  have hr : r < 2 ^ k := by rw [Nat.pow_succ] at h2; omega
  have hx : (2 ^ k + r) ^^^ 2 ^ k = r := by
    apply Nat.eq_of_testBit_eq
    intro i
    rw [Nat.testBit_xor, Nat.testBit_two_pow]
    rcases Nat.lt_trichotomy i k with h | h | h
    · rw [Nat.testBit_two_pow_add_gt h]
      simp [show ¬ k = i by omega]
    · subst h
      rw [Nat.testBit_two_pow_add_eq]
      simp
    · have a1 : 2 ^ (k + 1) ≤ 2 ^ i := Nat.pow_le_pow_right (by decide) h
      rw [Nat.testBit_lt_two_pow (show 2 ^ k + r < 2 ^ i by omega), Nat.testBit_lt_two_pow (show r < 2 ^ i by omega)]
      simp [show ¬ k = i by omega]
  have b1 := wb_lt2 (show k + 1 < 64 by omega)
  have b2 := wb_lt2 (show k < 64 by omega)
  apply wb_inj
  rw [Int64.toBitVec_xor, wb_tb, wb_tb, wb_tb]
  apply BitVec.eq_of_toNat_eq
  rw [BitVec.toNat_xor, BitVec.toNat_ofNat, BitVec.toNat_ofNat, BitVec.toNat_ofNat, Nat.mod_eq_of_lt (by omega : 2 ^ k + r < 2 ^ 64), Nat.mod_eq_of_lt b2, hx, Nat.add_sub_cancel_left, Nat.mod_eq_of_lt (by omega)]
theorem pk_least (P : Nat → Prop) (h : ∃ k, P k) : ∃ k, P k ∧ ∀ j, j < k → ¬ P j := by
  obtain ⟨k, hk⟩ := h
  induction k using Nat.strongRecOn with
  | ind k ih =>
    by_cases e : ∃ j, j < k ∧ P j
    · obtain ⟨j, hj, pj⟩ := e
      exact ih j hj pj
    · exact ⟨k, hk, fun j hj pj => e ⟨j, hj, pj⟩⟩
end
section
/-! ===== Int64 by its bits: zb_t x i ===== -/
def zb_t (x : Int64) (i : Nat) : Bool := x.toBitVec.getLsbD i
theorem zb_ext {x y : Int64} (h : ∀ i, i < 64 → zb_t x i = zb_t y i) : x = y := Int64.toBitVec_inj.mp (BitVec.eq_of_getLsbD_eq (fun i hi => h i hi))
theorem zb_or (x y : Int64) (i : Nat) : zb_t (x ||| y) i = (zb_t x i || zb_t y i) := by unfold zb_t; rw [Int64.toBitVec_or, BitVec.getLsbD_or]
theorem zb_and (x y : Int64) (i : Nat) : zb_t (x &&& y) i = (zb_t x i && zb_t y i) := by unfold zb_t; rw [Int64.toBitVec_and, BitVec.getLsbD_and]
theorem zb_xor (x y : Int64) (i : Nat) : zb_t (x ^^^ y) i = (zb_t x i ^^ zb_t y i) := by unfold zb_t; rw [Int64.toBitVec_xor, BitVec.getLsbD_xor]
theorem zb_big {x : Int64} {i : Nat} (h : 64 ≤ i) : zb_t x i = false := BitVec.getLsbD_of_ge _ _ h
theorem zb_0 (i : Nat) : zb_t 0 i = false := BitVec.getLsbD_zero
theorem zb_m1 : ∀ i, i < 64 → zb_t (-1) i = true := by decide +kernel
theorem zb_1 : ∀ i, i < 64 → zb_t 1 i = decide (0 = i) := by decide +kernel
theorem zb_lN {n : Nat} {i : Nat} (hi : i < 64) : zb_t (lN n) i = n.testBit i := by
  show (BitVec.ofNat 64 n).getLsbD i = _
  rw [BitVec.getLsbD_ofNat]
  simp [hi]
theorem zb_sm {k : Nat} (hk : k < 64) : ((lN k).toBitVec.smod 64).toNat = k := by
  rw [wb_tb, wb_sm k hk, BitVec.toNat_ofNat, Nat.mod_eq_of_lt (by omega)]
theorem zb_shl {k : Nat} {y : Int64} (hy : y = lN k) (hk : k < 64) (x : Int64) {i : Nat} (hi : i < 64) : zb_t (x <<< y) i = (decide (k ≤ i) && zb_t x (i - k)) := by
  subst hy
  unfold zb_t
  rw [Int64.toBitVec_shiftLeft]
  show (x.toBitVec <<< ((lN k).toBitVec.smod 64).toNat).getLsbD i = _
  rw [zb_sm hk, BitVec.getLsbD_shiftLeft]
  rcases Nat.lt_or_ge i k with h | h
  · simp [h, Nat.not_le.mpr h]
  · simp [hi, h, Nat.not_lt.mpr h]
theorem zb_ushr {k : Nat} {y : UInt64} (hy : y = UInt64.ofNat k) (hk : k < 64) (x : Int64) (i : Nat) : zb_t ((x.toUInt64 >>> y).toInt64) i = zb_t x (k + i) := by
  subst hy
  show (x.toUInt64 >>> UInt64.ofNat k).toBitVec.getLsbD i = x.toUInt64.toBitVec.getLsbD (k + i)
  rw [UInt64.toBitVec_shiftRight]
  have e : ((UInt64.ofNat k).toBitVec % 64).toNat = k := by
    rw [BitVec.toNat_umod]
    show (BitVec.ofNat 64 k).toNat % 64 = k
    rw [BitVec.toNat_ofNat]
    omega
  show (x.toUInt64.toBitVec >>> ((UInt64.ofNat k).toBitVec % 64).toNat).getLsbD i = _
  rw [e, BitVec.getLsbD_ushiftRight]
theorem zb_sshr {k : Nat} {y : Int64} (hy : y = lN k) (hk : k < 64) (x : Int64) {i : Nat} (hi : i < 64) : zb_t (x >>> y) i = if k + i < 64 then zb_t x (k + i) else zb_t x 63 := by
  subst hy
  unfold zb_t
  rw [Int64.toBitVec_shiftRight]
  show (x.toBitVec.sshiftRight ((lN k).toBitVec.smod 64).toNat).getLsbD i = _
  rw [zb_sm hk, BitVec.getLsbD_sshiftRight, BitVec.msb_eq_getLsbD_last]
  simp [hi]
theorem zb_i32 (x : Int64) {i : Nat} (hi : i < 32) : bt x.toInt32 i = zb_t x i := by
  unfold bt zb_t
  rw [Int64.toBitVec_toInt32, BitVec.getLsbD_signExtend]
  simp [hi, show i < 64 by omega]
/-- a bit as an int -/
def zb_i (b : Bool) : Int32 := if b then 1 else 0
theorem zb_one32 : ∀ i, i < 32 → bt 1 i = decide (i = 0) := by decide +kernel
theorem zb_lo (z : Int32) : z &&& 1 = zb_i (bt z 0) := by
  apply b_ext
  intro i hi
  rw [b_and, zb_one32 i hi]
  by_cases h : i = 0
  · subst h
    cases bt z 0 <;> decide
  · rw [decide_eq_false h, Bool.and_false]
    cases bt z 0
    · exact (b_0 i).symm
    · show false = bt 1 i
      rw [zb_one32 i hi, decide_eq_false h]
/-- the reference's bit -/
theorem zb_yb (x : Int64) {k : Nat} (hk : k < 64) : ((x >>> ((nI k).toInt64 &&& 63)).toInt32 &&& 1) = zb_i (zb_t x k) := by
  rw [zb_lo, zb_i32 _ (by omega), zb_sshr (wb_c k hk) hk x (by omega), if_pos (by omega), Nat.add_zero]
/-- X's bit as an int -/
theorem zb_xb (x : Int64) {k : Nat} (hk : k < 64) : (((x.toUInt64 >>> ((nI k).toInt64.toUInt64 &&& Int64.toUInt64 63)).toInt64).toInt32 &&& 1) = zb_i (zb_t x k) := by
  rw [zb_lo, zb_i32 _ (by omega), zb_ushr (wb_cu k hk) hk x, Nat.add_zero]
theorem zb_lo64 (z : Int64) : (z &&& 1) = 0 ↔ zb_t z 0 = false := by
  constructor
  · intro h
    have e := zb_and z 1 0
    rw [h, zb_0, zb_1 0 (by omega)] at e
    simpa using e.symm
  · intro h
    apply zb_ext
    intro i hi
    rw [zb_and, zb_1 i hi, zb_0]
    by_cases e : 0 = i
    · subst e; rw [h]; rfl
    · rw [decide_eq_false e, Bool.and_false]
/-- X's bit tested -/
theorem zb_x0 (x : Int64) {k : Nat} (hk : k < 64) : (((x.toUInt64 >>> ((nI k).toInt64.toUInt64 &&& Int64.toUInt64 63)).toInt64) &&& 1) = 0 ↔ zb_t x k = false := by
  rw [zb_lo64, zb_ushr (wb_cu k hk) hk x, Nat.add_zero]
theorem zb_i1 {b : Bool} : zb_i b = 1 ↔ b = true := by cases b <;> decide
theorem zb_i0 {b : Bool} : zb_i b = 0 ↔ b = false := by cases b <;> decide
theorem zb_ij {b c : Bool} : zb_i b = zb_i c ↔ b = c := by cases b <;> cases c <;> decide
theorem zb_iN (b : Bool) : zb_i b = nI b.toNat := by cases b <;> decide
/-- the single bit -/
theorem zb_bit {k : Nat} (hk : k < 64) {i : Nat} (hi : i < 64) : zb_t ((1 : Int64) <<< ((nI k).toInt64 &&& 63)) i = decide (k = i) := by
  rw [zb_shl (wb_c k hk) hk 1 hi]
  rcases Nat.lt_or_ge i k with h | h
  · rw [decide_eq_false (show ¬ k ≤ i by omega), decide_eq_false (show ¬ k = i by omega)]; rfl
  · rw [zb_1 _ (by omega), decide_eq_true h, Bool.true_and]
    by_cases e : k = i
    · rw [decide_eq_true e, decide_eq_true (by omega)]
    · rw [decide_eq_false e, decide_eq_false (by omega)]
/-! ===== the six masks and the six shifts ===== -/
def zm_M (v : Nat) : Int64 := if v = 0 then 6148914691236517205 else if v = 1 then 3689348814741910323 else if v = 2 then 1085102592571150095 else if v = 3 then 71777214294589695 else if v = 4 then 281470681808895 else 4294967295
theorem zm_Mb : ∀ v, v < 6 → ∀ i, i < 64 → zb_t (zm_M v) i = !(i.testBit v) := by decide +kernel
theorem zm_sh : ∀ v, v < 6 → (((1 : Int32) <<< (nI v &&& 31)).toInt64 &&& 63) = lN (2 ^ v) := by decide +kernel
theorem zm_shu : ∀ v, v < 6 → (((1 : Int32) <<< (nI v &&& 31)).toInt64.toUInt64 &&& Int64.toUInt64 63) = UInt64.ofNat (2 ^ v) := by decide +kernel
theorem zm_p64 : ∀ v, v < 6 → 2 ^ v < 64 := by decide
/-- the arithmetic of an assignment's bit v -/
theorem zm_up : ∀ v, v < 6 → ∀ a, a < 64 → a ^^^ 2 ^ v < 64 := by decide +kernel
theorem zm_dn : ∀ v, v < 6 → ∀ a, a < 64 → a.testBit v = true → 2 ^ v ≤ a ∧ a - 2 ^ v = a ^^^ 2 ^ v ∧ (a - 2 ^ v).testBit v = false ∧ a ^^^ 2 ^ v < a := by decide +kernel
theorem zm_dn0 : ∀ v, v < 6 → ∀ a, a < 64 → a.testBit v = false → 2 ^ v ≤ a → (a - 2 ^ v).testBit v = true := by decide +kernel
theorem zm_ad0 : ∀ v, v < 6 → ∀ a, a < 64 → a.testBit v = false → 2 ^ v + a = a ^^^ 2 ^ v ∧ 2 ^ v + a < 64 ∧ (2 ^ v + a).testBit v = true := by decide +kernel
theorem zm_ad1 : ∀ v, v < 6 → ∀ a, a < 64 → a.testBit v = true → 64 ≤ 2 ^ v + a ∨ (2 ^ v + a).testBit v = false := by decide +kernel
end
section
/-! ===== the butterfly, on functions of an assignment's number ===== -/
def zm_S (v : Nat) (f : Nat → Bool) (a : Nat) : Bool := f a ^^ (a.testBit v && f (a ^^^ 2 ^ v))
def zm_T (v : Nat) (f : Nat → Bool) (a : Nat) : Bool := a.testBit v && (f a ^^ f (a ^^^ 2 ^ v))
def zm_Z : Nat → (Nat → Bool) → Nat → Bool
  | 0 => fun f a => f a
  | n + 1 => fun f a => zm_S n (zm_Z n f) a
theorem zm_Zs (n : Nat) (f : Nat → Bool) (a : Nat) : zm_Z (n + 1) f a = (zm_Z n f a ^^ (a.testBit n && zm_Z n f (a ^^^ 2 ^ n))) := rfl
theorem zm_xor (f g : Nat → Bool) : ∀ n a, zm_Z n (fun q => f q ^^ g q) a = (zm_Z n f a ^^ zm_Z n g a) := by
  intro n
  induction n with
  | zero => intro a; rfl
  | succ n ih =>
    intro a
    rw [zm_Zs, ih, ih, zm_Zs, zm_Zs]
    cases a.testBit n <;> cases zm_Z n f a <;> cases zm_Z n g a <;> cases zm_Z n f (a ^^^ 2 ^ n) <;> cases zm_Z n g (a ^^^ 2 ^ n) <;> rfl
theorem zm_zero : ∀ n a, zm_Z n (fun _ => false) a = false := by
  intro n
  induction n with
  | zero => intro a; rfl
  | succ n ih => intro a; rw [zm_Zs, ih, ih]; cases a.testBit n <;> rfl
theorem zm_con {f g : Nat → Bool} (h : ∀ q, q < 64 → f q = g q) : ∀ n, n ≤ 6 → ∀ a, a < 64 → zm_Z n f a = zm_Z n g a := by
  intro n
  induction n with
  | zero => intro _ a ha; exact h a ha
  | succ n ih =>
    intro hn a ha
    rw [zm_Zs, zm_Zs, ih (by omega) a ha, ih (by omega) _ (zm_up n (by omega) a ha)]
theorem zm_tbs (a v : Nat) : (a ^^^ 2 ^ v).testBit v = !a.testBit v := by
  rw [Nat.testBit_xor, Nat.testBit_two_pow, decide_eq_true rfl]
  cases a.testBit v <;> rfl
theorem zm_tbn (a : Nat) {u v : Nat} (h : u ≠ v) : (a ^^^ 2 ^ v).testBit u = a.testBit u := by
  rw [Nat.testBit_xor, Nat.testBit_two_pow, decide_eq_false (fun e => h e.symm)]
  cases a.testBit u <;> rfl
theorem zm_xc (a u v : Nat) : a ^^^ 2 ^ u ^^^ 2 ^ v = a ^^^ 2 ^ v ^^^ 2 ^ u := by
  rw [Nat.xor_assoc, Nat.xor_comm (2 ^ u), ← Nat.xor_assoc]
theorem zm_xx (a v : Nat) : a ^^^ 2 ^ v ^^^ 2 ^ v = a := by
  rw [Nat.xor_assoc, Nat.xor_self, Nat.xor_zero]
/-- times a variable that the butterflies have not met -/
theorem zm_ZT1 (v : Nat) (f : Nat → Bool) : ∀ n, n ≤ v → ∀ a, zm_Z n (zm_T v f) a = zm_T v (zm_Z n f) a := by
  intro n
  induction n with
  | zero => intro _ a; rfl
  | succ n ih =>
    intro hn a
    have h1 : (a ^^^ 2 ^ n).testBit v = a.testBit v := zm_tbn a (by omega)
    have h2 : (a ^^^ 2 ^ v).testBit n = a.testBit n := zm_tbn a (by omega)
    rw [zm_Zs, ih (by omega), ih (by omega)]
    unfold zm_T
    rw [zm_Zs, zm_Zs, h1, h2, zm_xc a n v]
    generalize zm_Z n f a = p1
    generalize zm_Z n f (a ^^^ 2 ^ v) = p2
    generalize zm_Z n f (a ^^^ 2 ^ n) = p3
    generalize zm_Z n f (a ^^^ 2 ^ v ^^^ 2 ^ n) = p4
    cases a.testBit v <;> cases a.testBit n <;> cases p1 <;> cases p2 <;> cases p3 <;> cases p4 <;> rfl
/-- times a variable is the value and that variable -/
theorem zm_ZT2 (v : Nat) (f : Nat → Bool) : ∀ d a, zm_Z (v + 1 + d) (zm_T v f) a = (a.testBit v && zm_Z (v + 1 + d) f a) := by
  intro d
  induction d with
  | zero =>
    intro a
    show zm_Z (v + 1) (zm_T v f) a = (a.testBit v && zm_Z (v + 1) f a)
    rw [zm_Zs, zm_ZT1 v f v (Nat.le_refl v), zm_ZT1 v f v (Nat.le_refl v), zm_Zs]
    unfold zm_T
    rw [zm_tbs, zm_xx]
    cases a.testBit v <;> cases zm_Z v f a <;> cases zm_Z v f (a ^^^ 2 ^ v) <;> rfl
  | succ d ih =>
    intro a
    have h1 : (a ^^^ 2 ^ (v + 1 + d)).testBit v = a.testBit v := zm_tbn a (by omega)
    show zm_Z (v + 1 + d + 1) (zm_T v f) a = (a.testBit v && zm_Z (v + 1 + d + 1) f a)
    rw [zm_Zs, ih, ih, zm_Zs, h1]
    generalize zm_Z (v + 1 + d) f a = p1
    generalize zm_Z (v + 1 + d) f (a ^^^ 2 ^ (v + 1 + d)) = p2
    cases a.testBit v <;> cases a.testBit (v + 1 + d) <;> cases p1 <;> cases p2 <;> rfl
theorem zm_ZT (f : Nat → Bool) {v : Nat} (hv : v < 6) (a : Nat) : zm_Z 6 (zm_T v f) a = (a.testBit v && zm_Z 6 f a) := by
  have h := zm_ZT2 v f (5 - v) a
  rw [show v + 1 + (5 - v) = 6 by omega] at h
  exact h
/-- the least product is seen as itself -/
theorem zm_low {f : Nat → Bool} {p : Nat} (hp : p < 64) (h : ∀ q, q < p → f q = false) : ∀ n, n ≤ 6 → (∀ q, q < p → zm_Z n f q = false) ∧ zm_Z n f p = f p := by
  intro n
  induction n with
  | zero => intro _; exact ⟨h, rfl⟩
  | succ n ih =>
    intro hn
    obtain ⟨i1, i2⟩ := ih (by omega)
    have key : ∀ q, q ≤ p → (q.testBit n && zm_Z n f (q ^^^ 2 ^ n)) = false := by
      intro q hq
      cases e : q.testBit n
      · rfl
      · have d := (zm_dn n (by omega) q (by omega) e).2.2.2
        rw [i1 _ (by omega)]
        rfl
    refine ⟨?_, ?_⟩
    · intro q hq
      rw [zm_Zs, i1 q hq, key q (by omega)]
      rfl
    · rw [zm_Zs, i2, key p (Nat.le_refl p)]
      cases f p <;> rfl
/-- every variable below n of the product p is 1 in a -/
def zm_sub (p a : Nat) : Nat → Bool
  | 0 => true
  | n + 1 => (!p.testBit n || a.testBit n) && zm_sub p a n
theorem zm_sub_and : ∀ p, p < 64 → ∀ a, a < 64 → (a &&& p = p ↔ zm_sub p a 6 = true) := by decide +kernel
theorem zm_del : ∀ p, p < 64 → ∀ a, a < 64 → zm_Z 6 (fun q => decide (q = p)) a = zm_sub p a 6 := by decide +kernel
theorem zm_delc (c : Bool) {p a : Nat} (hp : p < 64) (ha : a < 64) : zm_Z 6 (fun q => c && decide (q = p)) a = (c && zm_sub p a 6) := by
  cases c
  · have h : zm_Z 6 (fun q => false && decide (q = p)) a = zm_Z 6 (fun _ => false) a := zm_con (fun q _ => Bool.false_and _) 6 (by omega) a ha
    rw [h, zm_zero, Bool.false_and]
  · have h : zm_Z 6 (fun q => true && decide (q = p)) a = zm_Z 6 (fun q => decide (q = p)) a := zm_con (fun q _ => Bool.true_and _) 6 (by omega) a ha
    rw [h, zm_del p hp a ha, Bool.true_and]
theorem zm_cut (f : Nat → Bool) {n a : Nat} (hn : n < 64) (ha : a < 64) : zm_Z 6 (fun q => decide (q < n + 1) && f q) a = (zm_Z 6 (fun q => decide (q < n) && f q) a ^^ (f n && zm_sub n a 6)) := by
  rw [← zm_delc (f n) hn ha, ← zm_xor]
  apply zm_con _ 6 (by omega) a ha
  intro q _
  rcases Nat.lt_trichotomy q n with h | h | h
  · rw [decide_eq_true h, decide_eq_true (show q < n + 1 by omega), decide_eq_false (show ¬ q = n by omega)]
    cases f q <;> cases f n <;> rfl
  · subst h
    rw [decide_eq_true (show q < q + 1 by omega), decide_eq_true rfl, decide_eq_false (Nat.lt_irrefl q)]
    cases f q <;> rfl
  · rw [decide_eq_false (show ¬ q < n by omega), decide_eq_false (show ¬ q < n + 1 by omega), decide_eq_false (show ¬ q = n by omega)]
    cases f q <;> cases f n <;> rfl
theorem zm_tail (f : Nat → Bool) {n a : Nat} (hn : n < 64) (ha : a < 64) : zm_Z 6 (fun q => decide (n ≤ q) && f q) a = (zm_Z 6 (fun q => decide (n + 1 ≤ q) && f q) a ^^ (f n && zm_sub n a 6)) := by
  rw [← zm_delc (f n) hn ha, ← zm_xor]
  apply zm_con _ 6 (by omega) a ha
  intro q _
  rcases Nat.lt_trichotomy q n with h | h | h
  · rw [decide_eq_false (show ¬ n ≤ q by omega), decide_eq_false (show ¬ n + 1 ≤ q by omega), decide_eq_false (show ¬ q = n by omega)]
    cases f q <;> cases f n <;> rfl
  · subst h
    rw [decide_eq_true (Nat.le_refl q), decide_eq_true rfl, decide_eq_false (show ¬ q + 1 ≤ q by omega)]
    cases f q <;> rfl
  · rw [decide_eq_true (show n ≤ q by omega), decide_eq_true (show n + 1 ≤ q by omega), decide_eq_false (show ¬ q = n by omega)]
    cases f q <;> cases f n <;> rfl
/-! ===== replacing a variable ===== -/
theorem zm_iv1 {f : Nat → Bool} {v : Nat} (h : ∀ a, a.testBit v = true → f a = false) : ∀ n, n ≤ v → ∀ a, a.testBit v = true → zm_Z n f a = false := by
  intro n
  induction n with
  | zero => intro _ a ha; exact h a ha
  | succ n ih =>
    intro hn a ha
    have h1 : (a ^^^ 2 ^ n).testBit v = true := (zm_tbn a (by omega)).trans ha
    rw [zm_Zs, ih (by omega) a ha, ih (by omega) _ h1]
    cases a.testBit n <;> rfl
theorem zm_iv2 {f : Nat → Bool} {v : Nat} (h : ∀ a, a.testBit v = true → f a = false) : ∀ d a, zm_Z (v + 1 + d) f (a ^^^ 2 ^ v) = zm_Z (v + 1 + d) f a := by
  intro d
  induction d with
  | zero =>
    intro a
    show zm_Z (v + 1) f (a ^^^ 2 ^ v) = zm_Z (v + 1) f a
    rw [zm_Zs, zm_Zs, zm_tbs, zm_xx]
    cases e : a.testBit v
    · have h1 : (a ^^^ 2 ^ v).testBit v = true := by rw [zm_tbs, e]; rfl
      rw [zm_iv1 h v (Nat.le_refl v) _ h1]
      cases zm_Z v f a <;> rfl
    · rw [zm_iv1 h v (Nat.le_refl v) _ e]
      cases zm_Z v f (a ^^^ 2 ^ v) <;> rfl
  | succ d ih =>
    intro a
    have h1 : (a ^^^ 2 ^ v).testBit (v + 1 + d) = a.testBit (v + 1 + d) := zm_tbn a (by omega)
    show zm_Z (v + 1 + d + 1) f (a ^^^ 2 ^ v) = zm_Z (v + 1 + d + 1) f a
    rw [zm_Zs, zm_Zs, ih, h1, zm_xc a v (v + 1 + d), ih]
theorem zm_iv {f : Nat → Bool} {v : Nat} (hv : v < 6) (h : ∀ a, a.testBit v = true → f a = false) (a : Nat) : zm_Z 6 f (a ^^^ 2 ^ v) = zm_Z 6 f a := by
  have e := zm_iv2 h (5 - v) a
  rw [show v + 1 + (5 - v) = 6 by omega] at e
  exact e
/-- the assignment a with c at v -/
def zm_r (v a : Nat) (c : Bool) : Nat := if a.testBit v = c then a else a ^^^ 2 ^ v
theorem zm_rb (v a : Nat) (c : Bool) : (zm_r v a c).testBit v = c := by
  unfold zm_r
  split
  · assumption
  · rename_i h
    rw [zm_tbs]
    revert h
    cases a.testBit v <;> cases c <;> simp
theorem zm_r64 {v a : Nat} (hv : v < 6) (ha : a < 64) (c : Bool) : zm_r v a c < 64 := by
  unfold zm_r
  split
  · exact ha
  · exact zm_up v hv a ha
theorem zm_rep {v : Nat} (hv : v < 6) {f f0 f1 : Nat → Bool} (h0 : ∀ q, q < 64 → f0 q = (!q.testBit v && f q)) (h1 : ∀ q, q < 64 → f1 q = (!q.testBit v && f (q ^^^ 2 ^ v))) (c : Bool) {a : Nat} (ha : a < 64) : zm_Z 6 f (zm_r v a c) = (zm_Z 6 f0 a ^^ (c && zm_Z 6 f1 a)) := by
  rw [zm_con h0 6 (by omega) a ha, zm_con h1 6 (by omega) a ha]
  have i0 : ∀ b, zm_Z 6 (fun q => !q.testBit v && f q) (b ^^^ 2 ^ v) = zm_Z 6 (fun q => !q.testBit v && f q) b := zm_iv hv (fun b hb => by simp [hb])
  have i1 : ∀ b, zm_Z 6 (fun q => !q.testBit v && f (q ^^^ 2 ^ v)) (b ^^^ 2 ^ v) = zm_Z 6 (fun q => !q.testBit v && f (q ^^^ 2 ^ v)) b := zm_iv hv (fun b hb => by simp [hb])
  have r0 : zm_Z 6 (fun q => !q.testBit v && f q) (zm_r v a c) = zm_Z 6 (fun q => !q.testBit v && f q) a := by
    unfold zm_r
    split
    · rfl
    · exact i0 a
  have r1 : zm_Z 6 (fun q => !q.testBit v && f (q ^^^ 2 ^ v)) (zm_r v a c) = zm_Z 6 (fun q => !q.testBit v && f (q ^^^ 2 ^ v)) a := by
    unfold zm_r
    split
    · rfl
    · exact i1 a
  have e : ∀ q, q < 64 → f q = ((!q.testBit v && f q) ^^ zm_T v (fun q => !q.testBit v && f (q ^^^ 2 ^ v)) q) := by
    intro q _
    unfold zm_T
    dsimp only
    rw [zm_tbs, zm_xx]
    cases q.testBit v <;> cases f q <;> cases f (q ^^^ 2 ^ v) <;> rfl
  rw [zm_con e 6 (by omega) _ (zm_r64 hv ha c), zm_xor, zm_ZT _ hv, zm_rb, r0, r1]
end
section
/-! ===== the same over longs ===== -/
def zm_st (v : Nat) (x : Int64) : Int64 := x ^^^ ((x &&& zm_M v) <<< (((1 : Int32) <<< (nI v &&& 31)).toInt64 &&& 63))
def zm_V : Nat → Int64 → Int64
  | 0 => fun x => x
  | n + 1 => fun x => zm_st n (zm_V n x)
theorem zm_shb (x : Int64) {v a : Nat} (hv : v < 6) (ha : a < 64) : zb_t ((x &&& zm_M v) <<< (((1 : Int32) <<< (nI v &&& 31)).toInt64 &&& 63)) a = (a.testBit v && zb_t x (a ^^^ 2 ^ v)) := by
  rw [zb_shl (zm_sh v hv) (zm_p64 v hv) _ ha, zb_and]
  cases e : a.testBit v
  · by_cases h : 2 ^ v ≤ a
    · rw [zm_Mb v hv _ (Nat.lt_of_le_of_lt (Nat.sub_le _ _) ha), zm_dn0 v hv a ha e h]
      simp
    · rw [decide_eq_false h]
      rfl
  · obtain ⟨d1, d2, d3, _⟩ := zm_dn v hv a ha e
    rw [decide_eq_true d1, zm_Mb v hv _ (Nat.lt_of_le_of_lt (Nat.sub_le _ _) ha), d3, d2]
    simp
theorem zm_stb (x : Int64) {v a : Nat} (hv : v < 6) (ha : a < 64) : zb_t (zm_st v x) a = zm_S v (zb_t x) a := by
  unfold zm_st zm_S
  rw [zb_xor, zm_shb x hv ha]
theorem zm_Vb (x : Int64) : ∀ n, n ≤ 6 → ∀ a, a < 64 → zb_t (zm_V n x) a = zm_Z n (zb_t x) a := by
  intro n
  induction n with
  | zero => intro _ a _; rfl
  | succ n ih =>
    intro hn a ha
    show zb_t (zm_st n (zm_V n x)) a = _
    rw [zm_stb _ (by omega) ha, zm_Zs]
    unfold zm_S
    rw [ih (by omega) a ha, ih (by omega) _ (zm_up n (by omega) a ha)]
theorem zm_V6 (x : Int64) {a : Nat} (ha : a < 64) : zb_t (zm_V 6 x) a = zm_Z 6 (zb_t x) a := zm_Vb x 6 (by omega) a ha
theorem zm_Vx (x y : Int64) : zm_V 6 (x ^^^ y) = zm_V 6 x ^^^ zm_V 6 y := by
  apply zb_ext
  intro a ha
  rw [zb_xor, zm_V6 _ ha, zm_V6 _ ha, zm_V6 _ ha, ← zm_xor]
  exact zm_con (fun q _ => zb_xor x y q) 6 (by omega) a ha
theorem zm_V0 : zm_V 6 0 = 0 := by decide +kernel
theorem zm_V1 : zm_V 6 1 = -1 := by decide +kernel
theorem zm_Vv : ∀ v, v < 6 → ∀ a, a < 64 → zb_t (zm_V 6 ((1 : Int64) <<< (((1 : Int32) <<< (nI v &&& 31)).toInt64 &&& 63))) a = a.testBit v := by decide +kernel
/-- no sum but 0 has the values 0 -/
theorem zm_Vi {x : Int64} (h : ∀ a, a < 64 → zb_t (zm_V 6 x) a = false) : x = 0 := by
  have k : ∀ n, n ≤ 64 → ∀ q, q < n → zb_t x q = false := by
    intro n
    induction n with
    | zero => intro _ q hq; omega
    | succ n ih =>
      intro hn q hq
      rcases Nat.lt_or_ge q n with g | g
      · exact ih (by omega) q g
      · have e : q = n := by omega
        subst e
        have l := (zm_low (f := zb_t x) (p := q) (by omega) (ih (by omega)) 6 (by omega)).2
        rw [← l, ← zm_V6 x (by omega)]
        exact h q (by omega)
  apply zb_ext
  intro i hi
  rw [zb_0]
  exact k 64 (by omega) i hi
/-! ===== times a variable, times a product, the product of two sums ===== -/
def zm_ts (v : Nat) (x : Int64) : Int64 := (x &&& (zm_M v ^^^ (-1))) ^^^ ((x &&& zm_M v) <<< (((1 : Int32) <<< (nI v &&& 31)).toInt64 &&& 63))
theorem zm_nM {v a : Nat} (hv : v < 6) (ha : a < 64) : zb_t (zm_M v ^^^ (-1)) a = a.testBit v := by
  rw [zb_xor, zm_Mb v hv a ha, zb_m1 a ha]
  cases a.testBit v <;> rfl
theorem zm_tsb (x : Int64) {v a : Nat} (hv : v < 6) (ha : a < 64) : zb_t (zm_ts v x) a = zm_T v (zb_t x) a := by
  unfold zm_ts zm_T
  rw [zb_xor, zm_shb x hv ha, zb_and, zm_nM hv ha]
  cases a.testBit v <;> cases zb_t x a <;> cases zb_t x (a ^^^ 2 ^ v) <;> rfl
def zm_TP (p : Nat) (y : Int64) : Nat → Int64
  | 0 => y
  | n + 1 => if p.testBit n = true then zm_ts n (zm_TP p y n) else zm_TP p y n
theorem zm_TPb (p : Nat) (y : Int64) {a : Nat} (ha : a < 64) : ∀ n, n ≤ 6 → zm_Z 6 (zb_t (zm_TP p y n)) a = (zm_sub p a n && zm_Z 6 (zb_t y) a) := by
  intro n
  induction n with
  | zero => intro _; show _ = (true && _); rw [Bool.true_and]; rfl
  | succ n ih =>
    intro hn
    have i := ih (by omega)
    show zm_Z 6 (zb_t (if p.testBit n = true then zm_ts n (zm_TP p y n) else zm_TP p y n)) a = (((!p.testBit n || a.testBit n) && zm_sub p a n) && _)
    cases e : p.testBit n
    · rw [if_neg (by decide), i]
      simp
    · rw [if_pos rfl, zm_con (fun q hq => zm_tsb (zm_TP p y n) (show n < 6 by omega) hq) 6 (by omega) a ha, zm_ZT _ (show n < 6 by omega), i]
      simp [Bool.and_assoc]
def zm_mu (x y : Int64) : Nat → Int64
  | 0 => 0
  | n + 1 => if zb_t x n = true then zm_mu x y n ^^^ zm_TP n y 6 else zm_mu x y n
theorem zm_mub (x y : Int64) {a : Nat} (ha : a < 64) : ∀ n, n ≤ 64 → zm_Z 6 (zb_t (zm_mu x y n)) a = (zm_Z 6 (fun q => decide (q < n) && zb_t x q) a && zm_Z 6 (zb_t y) a) := by
  intro n
  induction n with
  | zero =>
    intro _
    have e1 : zm_Z 6 (zb_t (zm_mu x y 0)) a = zm_Z 6 (fun _ => false) a := zm_con (fun q _ => zb_0 q) 6 (by omega) a ha
    have e2 : zm_Z 6 (fun q => decide (q < 0) && zb_t x q) a = zm_Z 6 (fun _ => false) a := zm_con (fun q _ => by simp) 6 (by omega) a ha
    rw [e1, e2, zm_zero]
    rfl
  | succ n ih =>
    intro hn
    have i := ih (by omega)
    rw [zm_cut _ (by omega) ha]
    show zm_Z 6 (zb_t (if zb_t x n = true then zm_mu x y n ^^^ zm_TP n y 6 else zm_mu x y n)) a = _
    cases e : zb_t x n
    · rw [if_neg (by decide), i]
      simp
    · rw [if_pos rfl, zm_con (fun q _ => zb_xor (zm_mu x y n) (zm_TP n y 6) q) 6 (by omega) a ha, zm_xor, i, zm_TPb n y ha 6 (by omega)]
      cases zm_Z 6 (zb_t y) a <;> cases zm_sub n a 6 <;> cases zm_Z 6 (fun q => decide (q < n) && zb_t x q) a <;> rfl
/-- the values of a product are the product of the values -/
theorem zm_mul (x y : Int64) : zm_V 6 (zm_mu x y 64) = zm_V 6 x &&& zm_V 6 y := by
  apply zb_ext
  intro a ha
  have e : zm_Z 6 (fun q => decide (q < 64) && zb_t x q) a = zm_Z 6 (zb_t x) a := zm_con (fun q hq => by rw [decide_eq_true hq, Bool.true_and]) 6 (by omega) a ha
  rw [zb_and, zm_V6 _ ha, zm_V6 _ ha, zm_V6 _ ha, zm_mub x y ha 64 (by omega), e]
/-- replace: the sum's part without v, and the part with v with v taken out -/
def zm_wi (v : Nat) (x : Int64) : Int64 := ((x &&& (zm_M v ^^^ (-1))).toUInt64 >>> (((1 : Int32) <<< (nI v &&& 31)).toInt64.toUInt64 &&& Int64.toUInt64 63)).toInt64
theorem zm_wib (x : Int64) {v a : Nat} (hv : v < 6) (ha : a < 64) : zb_t (zm_wi v x) a = (!a.testBit v && zb_t x (a ^^^ 2 ^ v)) := by
  unfold zm_wi
  rw [zb_ushr (zm_shu v hv) (zm_p64 v hv), zb_and]
  cases e : a.testBit v
  · obtain ⟨d1, d2, d3⟩ := zm_ad0 v hv a ha e
    rw [zm_nM hv d2, d3, d1]
    simp
  · rcases zm_ad1 v hv a ha e with h | h
    · rw [zb_big (x := x) h]
      rfl
    · rcases Nat.lt_or_ge (2 ^ v + a) 64 with g | g
      · rw [zm_nM hv g, h]
        simp
      · rw [zb_big (x := x) g]
        rfl
def zm_rp (v : Nat) (w x : Int64) : Int64 := (w &&& zm_M v) ^^^ zm_mu x (zm_wi v w) 64
theorem zm_rpb (w x : Int64) {v a : Nat} (hv : v < 6) (ha : a < 64) : zb_t (zm_V 6 (zm_rp v w x)) a = zb_t (zm_V 6 w) (zm_r v a (zb_t (zm_V 6 x) a)) := by
  unfold zm_rp
  rw [zm_Vx, zb_xor, zm_mul, zb_and, zm_V6 (w &&& zm_M v) ha, zm_V6 (zm_wi v w) ha, zm_V6 w (zm_r64 hv ha _)]
  refine (zm_rep hv (f := zb_t w) ?_ ?_ _ ha).symm
  · intro q hq
    rw [zb_and, zm_Mb v hv q hq, Bool.and_comm]
  · intro q hq
    exact zm_wib w hv hq
end
section
/-! ===== the number of bits ===== -/
def zp_c (f : Nat → Bool) : Nat → Nat
  | 0 => 0
  | n + 1 => zp_c f n + (f n).toNat
theorem zp_con {f g : Nat → Bool} : ∀ n, (∀ i, i < n → f i = g i) → zp_c f n = zp_c g n := by
  intro n
  induction n with
  | zero => intro _; rfl
  | succ n ih =>
    intro h
    show zp_c f n + (f n).toNat = zp_c g n + (g n).toNat
    rw [ih (fun i hi => h i (by omega)), h n (by omega)]
theorem zp_add (f : Nat → Bool) (m : Nat) : ∀ n, zp_c f (m + n) = zp_c f m + zp_c (fun i => f (m + i)) n := by
  intro n
  induction n with
  | zero => rfl
  | succ n ih =>
    show zp_c f (m + n) + (f (m + n)).toNat = zp_c f m + (zp_c (fun i => f (m + i)) n + (f (m + n)).toNat)
    rw [ih]
    omega
theorem zp_le (f : Nat → Bool) : ∀ n, zp_c f n ≤ n := by
  intro n
  induction n with
  | zero => exact Nat.le_refl 0
  | succ n ih =>
    show zp_c f n + (f n).toNat ≤ n + 1
    have : (f n).toNat ≤ 1 := by cases f n <;> decide
    omega
theorem zp_lt : ∀ n k, n ≤ k → zp_c (fun i => decide (i < k)) n = n := by
  intro n
  induction n with
  | zero => intro k _; rfl
  | succ n ih =>
    intro k hk
    show zp_c (fun i => decide (i < k)) n + (decide (n < k)).toNat = n + 1
    rw [ih k (by omega), decide_eq_true (show n < k by omega)]
    rfl
theorem zp_ge : ∀ d k, zp_c (fun i => decide (i < k)) (k + d) = k := by
  intro d k
  rw [zp_add, zp_lt k k (Nat.le_refl k), zp_con (g := fun _ => false) d (fun i _ => decide_eq_false (by omega))]
  have z : ∀ n, zp_c (fun _ => false) n = 0 := by
    intro n
    induction n with
    | zero => rfl
    | succ n ih => show zp_c (fun _ => false) n + 0 = 0; rw [ih]
  rw [z]
  rfl
/-! ===== a number by its bytes ===== -/
def zp_H : List Nat → Nat
  | [] => 0
  | b :: l => 2 ^ 8 * zp_H l + b
def zp_s : List Nat → Nat
  | [] => 0
  | b :: l => b + zp_s l
def zp_L : Nat → Nat → List Nat
  | 0 => fun _ => []
  | n + 1 => fun N => (N % 256) :: zp_L n (N / 256)
theorem zp_Ll : ∀ n N, (zp_L n N).length = n := by
  intro n
  induction n with
  | zero => intro N; rfl
  | succ n ih => intro N; show (zp_L n (N / 256)).length + 1 = n + 1; rw [ih]
theorem zp_LB : ∀ n N, ∀ b, b ∈ zp_L n N → b < 256 := by
  intro n
  induction n with
  | zero => intro N b h; exact absurd h (List.not_mem_nil)
  | succ n ih =>
    intro N b h
    rcases List.mem_cons.mp h with e | e
    · rw [e]; exact Nat.mod_lt _ (by decide)
    · exact ih _ b e
theorem zp_LH : ∀ n N, N < 256 ^ n → zp_H (zp_L n N) = N := by
  intro n
  induction n with
  | zero => intro N h; show 0 = N; rw [Nat.pow_zero] at h; omega
  | succ n ih =>
    intro N h
    show 2 ^ 8 * zp_H (zp_L n (N / 256)) + N % 256 = N
    rw [ih (N / 256) (by rw [Nat.pow_succ] at h; exact Nat.div_lt_of_lt_mul (by omega))]
    omega
theorem zp_8 {l : List Nat} (h : l.length = 8) : ∃ b0 b1 b2 b3 b4 b5 b6 b7, l = [b0, b1, b2, b3, b4, b5, b6, b7] := by
  rcases l with _ | ⟨b0, l⟩
  · exfalso; simp only [List.length_nil] at h; omega
  rcases l with _ | ⟨b1, l⟩
  · exfalso; simp only [List.length_cons, List.length_nil] at h; omega
  rcases l with _ | ⟨b2, l⟩
  · exfalso; simp only [List.length_cons, List.length_nil] at h; omega
  rcases l with _ | ⟨b3, l⟩
  · exfalso; simp only [List.length_cons, List.length_nil] at h; omega
  rcases l with _ | ⟨b4, l⟩
  · exfalso; simp only [List.length_cons, List.length_nil] at h; omega
  rcases l with _ | ⟨b5, l⟩
  · exfalso; simp only [List.length_cons, List.length_nil] at h; omega
  rcases l with _ | ⟨b6, l⟩
  · exfalso; simp only [List.length_cons, List.length_nil] at h; omega
  rcases l with _ | ⟨b7, l⟩
  · exfalso; simp only [List.length_cons, List.length_nil] at h; omega
  rcases l with _ | ⟨b8, l⟩
  · exact ⟨b0, b1, b2, b3, b4, b5, b6, b7, rfl⟩
  · exfalso; simp only [List.length_cons] at h; omega
theorem zp_tb (h b j : Nat) (hb : b < 256) : (2 ^ 8 * h + b).testBit j = if j < 8 then b.testBit j else h.testBit (j - 8) := Nat.testBit_two_pow_mul_add h hb j
/-- a byte-wise shift and mask -/
theorem zp_and {k m : Nat} (hk : k ≤ 8) (hm : m < 2 ^ (8 - k)) : ∀ l : List Nat, (∀ b, b ∈ l → b < 256) → (zp_H l / 2 ^ k) &&& zp_H (l.map (fun _ => m)) = zp_H (l.map (fun b => (b / 2 ^ k) &&& m)) := by
  have hm8 : m < 256 := Nat.lt_of_lt_of_le hm (Nat.pow_le_pow_right (by decide) (Nat.sub_le 8 k) : 2 ^ (8 - k) ≤ 2 ^ 8)
  intro l
  induction l with
  | nil => intro _; show (0 / 2 ^ k) &&& 0 = 0; exact Nat.and_zero _
  | cons b l ih =>
    intro hB
    have hb : b < 256 := hB b List.mem_cons_self
    have i := ih (fun c hc => hB c (List.mem_cons_of_mem _ hc))
    show ((2 ^ 8 * zp_H l + b) / 2 ^ k) &&& (2 ^ 8 * zp_H (l.map (fun _ => m)) + m) = 2 ^ 8 * zp_H (l.map (fun b => (b / 2 ^ k) &&& m)) + ((b / 2 ^ k) &&& m)
    rw [← i]
    apply Nat.eq_of_testBit_eq
    intro j
    have hbm : (b / 2 ^ k) &&& m < 256 := Nat.lt_of_le_of_lt Nat.and_le_right hm8
    rw [Nat.testBit_and, Nat.testBit_div_two_pow, zp_tb _ b _ hb, zp_tb _ m _ hm8, zp_tb _ _ _ hbm, Nat.testBit_and, Nat.testBit_div_two_pow]
    by_cases h : j < 8
    · rw [if_pos h, if_pos h]
      by_cases g : j + k < 8
      · rw [if_pos g]
      · have z : m.testBit j = false := Nat.testBit_lt_two_pow (Nat.lt_of_lt_of_le hm (Nat.pow_le_pow_right (by decide) (by omega)))
        rw [z, Bool.and_false, Bool.and_false]
    · rw [if_neg h, if_neg h, if_neg (by omega), Nat.testBit_and, Nat.testBit_div_two_pow, show j + k - 8 = j - 8 + k by omega]
theorem zp_ad (f g : Nat → Nat) : ∀ l : List Nat, zp_H (l.map f) + zp_H (l.map g) = zp_H (l.map (fun b => f b + g b)) := by
  intro l
  induction l with
  | nil => rfl
  | cons b l ih =>
    show (2 ^ 8 * zp_H (l.map f) + f b) + (2 ^ 8 * zp_H (l.map g) + g b) = 2 ^ 8 * zp_H (l.map (fun b => f b + g b)) + (f b + g b)
    omega
theorem zp_sb (g : Nat → Nat) : ∀ l : List Nat, (∀ b, b ∈ l → g b ≤ b) → zp_H (l.map g) ≤ zp_H l ∧ zp_H l - zp_H (l.map g) = zp_H (l.map (fun b => b - g b)) := by
  intro l
  induction l with
  | nil => intro _; exact ⟨Nat.le_refl _, rfl⟩
  | cons b l ih =>
    intro h
    have hb := h b List.mem_cons_self
    obtain ⟨i1, i2⟩ := ih (fun c hc => h c (List.mem_cons_of_mem _ hc))
    show 2 ^ 8 * zp_H (l.map g) + g b ≤ 2 ^ 8 * zp_H l + b ∧ (2 ^ 8 * zp_H l + b) - (2 ^ 8 * zp_H (l.map g) + g b) = 2 ^ 8 * zp_H (l.map (fun b => b - g b)) + (b - g b)
    omega
theorem zp_m16 : ∀ l : List Nat, (∀ b, b ∈ l → b % 16 ≤ 4) → zp_H l % 16 ≤ 4 := by
  intro l
  cases l with
  | nil => intro _; show 0 % 16 ≤ 4; decide
  | cons b l =>
    intro h
    have hb := h b List.mem_cons_self
    show (2 ^ 8 * zp_H l + b) % 16 ≤ 4
    omega
theorem zp_n4 : ∀ l : List Nat, (∀ b, b ∈ l → b % 16 ≤ 4 ∧ b / 16 ≤ 4) → (zp_H l + zp_H l / 2 ^ 4) &&& zp_H (l.map (fun _ => 15)) = zp_H (l.map (fun b => b % 16 + b / 16)) := by
  intro l
  induction l with
  | nil => intro _; rfl
  | cons b l ih =>
    intro hB
    have hb := hB b List.mem_cons_self
    have hl := fun c hc => hB c (List.mem_cons_of_mem _ hc)
    have i := ih hl
    have hm := zp_m16 l (fun c hc => (hl c hc).1)
    show ((2 ^ 8 * zp_H l + b) + (2 ^ 8 * zp_H l + b) / 2 ^ 4) &&& (2 ^ 8 * zp_H (l.map (fun _ => 15)) + 15) = 2 ^ 8 * zp_H (l.map (fun b => b % 16 + b / 16)) + (b % 16 + b / 16)
    rw [← i]
    generalize zp_H (l.map (fun _ => 15)) = M
    generalize zp_H l = h at hm
    have e : (2 ^ 8 * h + b) + (2 ^ 8 * h + b) / 2 ^ 4 = 2 ^ 8 * (h + h / 2 ^ 4) + (b + b / 16 + 16 * (h % 16)) := by omega
    have hx : b + b / 16 + 16 * (h % 16) < 256 := by omega
    have e2 : b % 16 + b / 16 = (b + b / 16 + 16 * (h % 16)) &&& 15 := by
      rw [show (15 : Nat) = 2 ^ 4 - 1 from rfl, Nat.and_two_pow_sub_one_eq_mod]
      omega
    rw [e, e2]
    generalize b + b / 16 + 16 * (h % 16) = x at hx
    generalize h + h / 2 ^ 4 = A
    apply Nat.eq_of_testBit_eq
    intro j
    have hxm : x &&& 15 < 256 := Nat.lt_of_le_of_lt Nat.and_le_right (by decide)
    rw [Nat.testBit_and, zp_tb _ x _ hx, zp_tb _ 15 _ (by decide), zp_tb _ _ _ hxm]
    by_cases h : j < 8
    · rw [if_pos h, if_pos h, if_pos h, Nat.testBit_and]
    · rw [if_neg h, if_neg h, if_neg h, Nat.testBit_and]
theorem zp_ms {R S Q : Nat} (hS : S < 256) (hQ : Q < 2 ^ 56) : (2 ^ 64 * R + 2 ^ 56 * S + Q) % 2 ^ 64 / 2 ^ 56 = S := by
  omega
theorem zp_n5 {c0 c1 c2 c3 c4 c5 c6 c7 : Nat} (h0 : c0 ≤ 8) (h1 : c1 ≤ 8) (h2 : c2 ≤ 8) (h3 : c3 ≤ 8) (h4 : c4 ≤ 8) (h5 : c5 ≤ 8) (h6 : c6 ≤ 8) (h7 : c7 ≤ 8) : zp_H [c0, c1, c2, c3, c4, c5, c6, c7] * 72340172838076673 % 2 ^ 64 / 2 ^ 56 = zp_s [c0, c1, c2, c3, c4, c5, c6, c7] := by
  have e : zp_H [c0, c1, c2, c3, c4, c5, c6, c7] * 72340172838076673 = 2 ^ 64 * ((c1 + c2 + c3 + c4 + c5 + c6 + c7) + 2 ^ 8 * (c2 + c3 + c4 + c5 + c6 + c7) + 2 ^ 16 * (c3 + c4 + c5 + c6 + c7) + 2 ^ 24 * (c4 + c5 + c6 + c7) + 2 ^ 32 * (c5 + c6 + c7) + 2 ^ 40 * (c6 + c7) + 2 ^ 48 * c7) + 2 ^ 56 * (c0 + c1 + c2 + c3 + c4 + c5 + c6 + c7) + (c0 + 2 ^ 8 * (c0 + c1) + 2 ^ 16 * (c0 + c1 + c2) + 2 ^ 24 * (c0 + c1 + c2 + c3) + 2 ^ 32 * (c0 + c1 + c2 + c3 + c4) + 2 ^ 40 * (c0 + c1 + c2 + c3 + c4 + c5) + 2 ^ 48 * (c0 + c1 + c2 + c3 + c4 + c5 + c6)) := by
    simp only [zp_H]
    omega
  rw [e, zp_ms (by omega) (by omega)]
  simp only [zp_s]
  omega
/-- the count by bytes -/
theorem zp_cnt : ∀ l : List Nat, (∀ b, b ∈ l → b < 256) → zp_c (fun i => (zp_H l).testBit i) (8 * l.length) = zp_s (l.map (fun b => zp_c (fun i => b.testBit i) 8)) := by
  intro l
  induction l with
  | nil => intro _; rfl
  | cons b l ih =>
    intro hB
    have hb : b < 256 := hB b List.mem_cons_self
    have i := ih (fun c hc => hB c (List.mem_cons_of_mem _ hc))
    show zp_c (fun i => (2 ^ 8 * zp_H l + b).testBit i) (8 * (l.length + 1)) = zp_c (fun i => b.testBit i) 8 + zp_s (l.map (fun b => zp_c (fun i => b.testBit i) 8))
    rw [← i, show 8 * (l.length + 1) = 8 + 8 * l.length by omega, zp_add]
    have A : zp_c (fun i => (2 ^ 8 * zp_H l + b).testBit i) 8 = zp_c (fun i => b.testBit i) 8 := zp_con 8 (fun j hj => by show (2 ^ 8 * zp_H l + b).testBit j = b.testBit j; rw [zp_tb _ b _ hb, if_pos hj])
    have B : zp_c (fun i => (2 ^ 8 * zp_H l + b).testBit (8 + i)) (8 * l.length) = zp_c (fun i => (zp_H l).testBit i) (8 * l.length) := zp_con (8 * l.length) (fun j hj => by show (2 ^ 8 * zp_H l + b).testBit (8 + j) = (zp_H l).testBit j; rw [zp_tb _ b _ hb, if_neg (by omega), Nat.add_sub_cancel_left])
    rw [A, B]
/-- one byte of X's count -/
def zp_f1 (b : Nat) : Nat := b - ((b / 2 ^ 1) &&& 85)
def zp_f2 (b : Nat) : Nat := ((b / 2 ^ 0) &&& 51) + ((b / 2 ^ 2) &&& 51)
def zp_f3 (b : Nat) : Nat := b % 16 + b / 16
theorem zp_b1 : ∀ b, b < 256 → (b / 2 ^ 1) &&& 85 ≤ b ∧ zp_f1 b < 256 := by decide +kernel
theorem zp_b2 : ∀ b, b < 256 → zp_f2 (zp_f1 b) < 69 ∧ zp_f2 (zp_f1 b) % 16 ≤ 4 ∧ zp_f2 (zp_f1 b) / 16 ≤ 4 := by decide +kernel
theorem zp_b3 : ∀ b, b < 256 → zp_f3 (zp_f2 (zp_f1 b)) = zp_c (fun i => b.testBit i) 8 := by decide +kernel
end
section
/-! ===== X's count of bits ===== -/
theorem zp_Hl : ∀ l : List Nat, (∀ b, b ∈ l → b < 256) → zp_H l < 256 ^ l.length := by
  intro l
  induction l with
  | nil => intro _; show 0 < 256 ^ 0; decide
  | cons b l ih =>
    intro hB
    have hb : b < 256 := hB b List.mem_cons_self
    have i := ih (fun c hc => hB c (List.mem_cons_of_mem _ hc))
    show 2 ^ 8 * zp_H l + b < 256 ^ (l.length + 1)
    rw [Nat.pow_succ]
    omega
theorem zp_H64 {l : List Nat} (hl : l.length = 8) (hB : ∀ b, b ∈ l → b < 256) : zp_H l < 2 ^ 64 := by
  have h := zp_Hl l hB
  rw [hl] at h
  exact h
theorem zp_H63 {l : List Nat} (hl : l.length = 8) (hB : ∀ b, b ∈ l → b < 69) : zp_H l < 2 ^ 63 := by
  obtain ⟨b0, b1, b2, b3, b4, b5, b6, b7, rfl⟩ := zp_8 hl
  have h0 := hB b0 (by simp)
  have h1 := hB b1 (by simp)
  have h2 := hB b2 (by simp)
  have h3 := hB b3 (by simp)
  have h4 := hB b4 (by simp)
  have h5 := hB b5 (by simp)
  have h6 := hB b6 (by simp)
  have h7 := hB b7 (by simp)
  simp only [zp_H]
  omega
theorem zp_mk {l : List Nat} (hl : l.length = 8) (m : Nat) : zp_H (l.map (fun _ => m)) = zp_H [m, m, m, m, m, m, m, m] := by
  obtain ⟨b0, b1, b2, b3, b4, b5, b6, b7, rfl⟩ := zp_8 hl
  rfl
theorem zp_mB {f : Nat → Nat} {l : List Nat} {P : Nat → Prop} (h : ∀ b, b ∈ l → P (f b)) : ∀ c, c ∈ l.map f → P c := by
  intro c hc
  obtain ⟨b, hb, rfl⟩ := List.mem_map.mp hc
  exact h b hb
theorem zp_k1 : (6148914691236517205 : Int64) = lN (zp_H [85, 85, 85, 85, 85, 85, 85, 85]) := by decide +kernel
theorem zp_k2 : (3689348814741910323 : Int64) = lN (zp_H [51, 51, 51, 51, 51, 51, 51, 51]) := by decide +kernel
theorem zp_k3 : (1085102592571150095 : Int64) = lN (zp_H [15, 15, 15, 15, 15, 15, 15, 15]) := by decide +kernel
theorem zp_k4 : (72340172838076673 : Int64) = lN 72340172838076673 := by decide +kernel
theorem zp_y1 {l : List Nat} (hl : l.length = 8) (hB : ∀ b, b ∈ l → b < 256) : lN (zp_H l) - ((((lN (zp_H l)).toUInt64 >>> ((1 : Int32).toInt64.toUInt64 &&& Int64.toUInt64 63)).toInt64) &&& 6148914691236517205) = lN (zp_H (l.map zp_f1)) := by
  have hH := zp_H64 hl hB
  have e : ((lN (zp_H l)).toUInt64 >>> ((1 : Int32).toInt64.toUInt64 &&& Int64.toUInt64 63)).toInt64 = lN (zp_H l / 2 ^ 1) := wb_shr (k := 1) hH (by omega)
  have s := zp_sb (fun b => (b / 2 ^ 1) &&& 85) l (fun b hb => (zp_b1 b (hB b hb)).1)
  rw [e, zp_k1, ← zp_mk hl 85, wb_and (Nat.lt_of_le_of_lt (Nat.div_le_self _ _) hH) (by rw [zp_mk hl]; decide +kernel), zp_and (k := 1) (m := 85) (by omega) (by decide) l hB, lN_sub s.1, s.2]
  rfl
theorem zp_y2 {l : List Nat} (hl : l.length = 8) (hB : ∀ b, b ∈ l → b < 256) : (lN (zp_H l) &&& 3689348814741910323) + ((((lN (zp_H l)).toUInt64 >>> ((2 : Int32).toInt64.toUInt64 &&& Int64.toUInt64 63)).toInt64) &&& 3689348814741910323) = lN (zp_H (l.map zp_f2)) := by
  have hH := zp_H64 hl hB
  have e : ((lN (zp_H l)).toUInt64 >>> ((2 : Int32).toInt64.toUInt64 &&& Int64.toUInt64 63)).toInt64 = lN (zp_H l / 2 ^ 2) := wb_shr (k := 2) hH (by omega)
  have a0 := zp_and (k := 0) (m := 51) (by omega) (by decide) l hB
  rw [show zp_H l / 2 ^ 0 = zp_H l from Nat.div_one _] at a0
  have hm : zp_H (l.map (fun _ => 51)) < 2 ^ 64 := by rw [zp_mk hl]; decide +kernel
  rw [e, zp_k2, ← zp_mk hl 51, wb_and hH hm, wb_and (Nat.lt_of_le_of_lt (Nat.div_le_self _ _) hH) hm, a0, zp_and (k := 2) (m := 51) (by omega) (by decide) l hB, lN_add, zp_ad]
  rfl
theorem zp_y3 {l : List Nat} (hl : l.length = 8) (hB : ∀ b, b ∈ l → b < 69 ∧ b % 16 ≤ 4 ∧ b / 16 ≤ 4) : (lN (zp_H l) + (((lN (zp_H l)).toUInt64 >>> ((4 : Int32).toInt64.toUInt64 &&& Int64.toUInt64 63)).toInt64)) &&& 1085102592571150095 = lN (zp_H (l.map zp_f3)) := by
  have hH := zp_H63 hl (fun b hb => (hB b hb).1)
  have e : ((lN (zp_H l)).toUInt64 >>> ((4 : Int32).toInt64.toUInt64 &&& Int64.toUInt64 63)).toInt64 = lN (zp_H l / 2 ^ 4) := wb_shr (k := 4) (by omega) (by omega)
  have hm : zp_H (l.map (fun _ => 15)) < 2 ^ 64 := by rw [zp_mk hl]; decide +kernel
  rw [e, lN_add, zp_k3, ← zp_mk hl 15, wb_and (by omega) hm, zp_n4 l (fun b hb => (hB b hb).2)]
  rfl
theorem zp_y4 {l : List Nat} (hl : l.length = 8) (hB : ∀ b, b ∈ l → b ≤ 8) : (((lN (zp_H l) * 72340172838076673).toUInt64 >>> ((56 : Int32).toInt64.toUInt64 &&& Int64.toUInt64 63)).toInt64).toInt32 = nI (zp_s l) := by
  have e : ((lN (zp_H l * 72340172838076673 % 2 ^ 64)).toUInt64 >>> ((56 : Int32).toInt64.toUInt64 &&& Int64.toUInt64 63)).toInt64 = lN (zp_H l * 72340172838076673 % 2 ^ 64 / 2 ^ 56) := wb_shr (k := 56) (Nat.mod_lt _ (by decide)) (by omega)
  rw [zp_k4, lN_mul, wb_mod, e, lN_i]
  obtain ⟨b0, b1, b2, b3, b4, b5, b6, b7, rfl⟩ := zp_8 hl
  rw [zp_n5 (hB b0 (by simp)) (hB b1 (by simp)) (hB b2 (by simp)) (hB b3 (by simp)) (hB b4 (by simp)) (hB b5 (by simp)) (hB b6 (by simp)) (hB b7 (by simp))]
/-- ones gives the number of bits -/
theorem zx_onL {post : Int32 → Prop} {l : List Nat} (hl : l.length = 8) (hB : ∀ b, b ∈ l → b < 256) (h : post (nI (zp_s (l.map (fun b => zp_c (fun i => b.testBit i) 8))))) : wpX_ones post (lN (zp_H l)) := by
  have hl1 : (l.map zp_f1).length = 8 := by rw [List.length_map]; exact hl
  have hl2 : ((l.map zp_f1).map zp_f2).length = 8 := by rw [List.length_map]; exact hl1
  have hl3 : (((l.map zp_f1).map zp_f2).map zp_f3).length = 8 := by rw [List.length_map]; exact hl2
  have hB1 : ∀ c, c ∈ l.map zp_f1 → c < 256 := zp_mB (P := fun c => c < 256) (fun b hb => (zp_b1 b (hB b hb)).2)
  have hB2 : ∀ c, c ∈ (l.map zp_f1).map zp_f2 → c < 69 ∧ c % 16 ≤ 4 ∧ c / 16 ≤ 4 := zp_mB (P := fun c => c < 69 ∧ c % 16 ≤ 4 ∧ c / 16 ≤ 4) (zp_mB (P := fun c => zp_f2 c < 69 ∧ zp_f2 c % 16 ≤ 4 ∧ zp_f2 c / 16 ≤ 4) (fun b hb => zp_b2 b (hB b hb)))
  have hB3 : ∀ c, c ∈ ((l.map zp_f1).map zp_f2).map zp_f3 → c ≤ 8 := zp_mB (P := fun c => c ≤ 8) (zp_mB (P := fun c => zp_f3 c ≤ 8) (zp_mB (P := fun c => zp_f3 (zp_f2 c) ≤ 8) (fun b hb => by rw [zp_b3 b (hB b hb)]; exact zp_le _ 8)))
  have hs : zp_s (((l.map zp_f1).map zp_f2).map zp_f3) = zp_s (l.map (fun b => zp_c (fun i => b.testBit i) 8)) := by
    rw [List.map_map, List.map_map]
    congr 1
    apply List.map_congr_left
    intro b hb
    exact zp_b3 b (hB b hb)
  unfold wpX_ones
  refine nm_r (zp_y1 hl hB) (nm_r (zp_y2 hl1 hB1) (nm_r (zp_y3 hl2 hB2) ?_))
  rw [zp_y4 hl3 hB3, hs]
  exact h
theorem zx_ones {post : Int32 → Prop} {x : Int64} (h : post (nI (zp_c (zb_t x) 64))) : wpX_ones post x := by
  obtain ⟨N, hN, rfl⟩ := wb_of x
  have hH : zp_H (zp_L 8 N) = N := zp_LH 8 N hN
  have hc : zp_c (zb_t (lN N)) 64 = zp_s ((zp_L 8 N).map (fun b => zp_c (fun i => b.testBit i) 8)) := by
    rw [← zp_cnt _ (zp_LB 8 N), zp_Ll, hH]
    exact zp_con 64 (fun i hi => zb_lN hi)
  rw [hc] at h
  have k := zx_onL (zp_Ll 8 N) (zp_LB 8 N) h
  rw [hH] at k
  exact k
/-! ===== X's walks ===== -/
theorem zx_pw {post : Int64 → Prop} {v : Nat} (hv : v < 6) (h : post (zm_M v)) : wpX_productsWithout post (nI v) := by
  unfold wpX_productsWithout
  revert h
  match v, hv with
  | 0, _ => exact fun h => br_t (by decide) h
  | 1, _ => exact fun h => br_f (by decide) (br_t (by decide) h)
  | 2, _ => exact fun h => br_f (by decide) (br_f (by decide) (br_t (by decide) h))
  | 3, _ => exact fun h => br_f (by decide) (br_f (by decide) (br_f (by decide) (br_t (by decide) h)))
  | 4, _ => exact fun h => br_f (by decide) (br_f (by decide) (br_f (by decide) (br_f (by decide) (br_t (by decide) h))))
  | 5, _ => exact fun h => br_f (by decide) (br_f (by decide) (br_f (by decide) (br_f (by decide) (br_f (by decide) h))))
  | n + 6, g => exact absurd g (by omega)
theorem zx_ge {b i : Nat} (h : i < b) (hb : b < 2 ^ 31) : ¬ nI b ≤ nI i := nI_ge h hb
theorem zx_tp5 {post : Int64 → Prop} {p : Nat} (hp : p < 64) (y : Int64) (h : post (zm_TP p y 6)) : ∀ d i, i + d = 6 → ∀ n, d < n → wX_timesProduct_5 post (nI p) n (zm_TP p y i) (nI i) := by
  intro d
  induction d with
  | zero =>
    intro i hi n hn
    obtain ⟨m, rfl⟩ : ∃ m, n = m + 1 := ⟨n - 1, by omega⟩
    obtain rfl : i = 6 := by omega
    exact br_t (by decide) h
  | succ d ih =>
    intro i hi n hn
    obtain ⟨m, rfl⟩ : ∃ m, n = m + 1 := ⟨n - 1, by omega⟩
    have hv : i < 6 := by omega
    have k := ih (i + 1) (by omega) m (by omega)
    have st : zm_TP p y (i + 1) = if p.testBit i = true then zm_ts i (zm_TP p y i) else zm_TP p y i := rfl
    refine br_f (zx_ge (b := 6) hv (by decide)) ?_
    cases e : p.testBit i
    · rw [st, e, if_neg (by decide)] at k
      exact br_t ((nx_bit (by omega) (by omega)).mpr e) (nm_r (nI_1 i) k)
    · rw [st, e, if_pos rfl] at k
      refine br_f (fun z => absurd ((nx_bit (by omega) (by omega)).mp z) (by rw [e]; decide)) ?_
      exact zx_pw hv (nm_e (zx_pw hv (nm_e (nm_r (nI_1 i) k))))
theorem zx_tp {post : Int64 → Prop} {p : Nat} (hp : p < 64) {y : Int64} (h : post (zm_TP p y 6)) : wpX_timesProduct post y (nI p) := Exists.intro 7 (zx_tp5 hp y h 6 0 (by omega) 7 (by omega))
theorem zx_mu6 {post : Int64 → Prop} (x y : Int64) (h : post (zm_mu x y 64)) : ∀ d i, i + d = 64 → ∀ n, d < n → wX_multiply_6 post x y n (zm_mu x y i) (nI i) := by
  intro d
  induction d with
  | zero =>
    intro i hi n hn
    obtain ⟨m, rfl⟩ : ∃ m, n = m + 1 := ⟨n - 1, by omega⟩
    obtain rfl : i = 64 := by omega
    exact br_t (by decide) h
  | succ d ih =>
    intro i hi n hn
    obtain ⟨m, rfl⟩ : ∃ m, n = m + 1 := ⟨n - 1, by omega⟩
    have hv : i < 64 := by omega
    have k := ih (i + 1) (by omega) m (by omega)
    have st : zm_mu x y (i + 1) = if zb_t x i = true then zm_mu x y i ^^^ zm_TP i y 6 else zm_mu x y i := rfl
    refine br_f (zx_ge (b := 64) hv (by decide)) ?_
    cases e : zb_t x i
    · rw [st, e, if_neg (by decide)] at k
      exact br_t ((zb_x0 x hv).mpr e) (nm_r (nI_1 i) k)
    · rw [st, e, if_pos rfl] at k
      refine br_f (fun z => absurd ((zb_x0 x hv).mp z) (by rw [e]; decide)) ?_
      exact zx_tp hv (nm_e (nm_r (nI_1 i) k))
theorem zx_mu {post : Int64 → Prop} {x y : Int64} (h : post (zm_mu x y 64)) : wpX_multiply post x y := Exists.intro 65 (zx_mu6 x y h 64 0 (by omega) 65 (by omega))
theorem zx_vo5 {post : Int64 → Prop} (x : Int64) (h : post (zm_V 6 x)) : ∀ d i, i + d = 6 → ∀ n, d < n → wX_valuesOf_5 post n (zm_V i x) (nI i) := by
  intro d
  induction d with
  | zero =>
    intro i hi n hn
    obtain ⟨m, rfl⟩ : ∃ m, n = m + 1 := ⟨n - 1, by omega⟩
    obtain rfl : i = 6 := by omega
    exact br_t (by decide) h
  | succ d ih =>
    intro i hi n hn
    obtain ⟨m, rfl⟩ : ∃ m, n = m + 1 := ⟨n - 1, by omega⟩
    have hv : i < 6 := by omega
    have k := ih (i + 1) (by omega) m (by omega)
    refine br_f (zx_ge (b := 6) hv (by decide)) ?_
    exact zx_pw hv (nm_e (nm_e (nm_r (nI_1 i) k)))
theorem zx_vo {post : Int64 → Prop} {x : Int64} (h : post (zm_V 6 x)) : wpX_valuesOf post x := Exists.intro 7 (zx_vo5 x h 6 0 (by omega) 7 (by omega))
/-! ===== join ===== -/
def zx_cb (j : Nat) (x y : Int64) : Int64 := if j = 2 then x ^^^ y else if j = 3 then (x ^^^ y) ^^^ 1 else if j = 0 then zm_mu x y 64 else if j = 1 then (x ^^^ y) ^^^ zm_mu x y 64 else if j = 4 then (1 ^^^ x) ^^^ zm_mu x y 64 else 1 ^^^ zm_mu x y 64
def zy_j (j : Nat) (p q : Bool) : Bool := if j = 0 then p && q else if j = 1 then p || q else if j = 2 then p ^^ q else if j = 3 then !(p ^^ q) else if j = 4 then !p || q else !(p && q)
theorem zx_cbb {j : Nat} (hj : j < 6) (x y : Int64) {a : Nat} (ha : a < 64) : zb_t (zm_V 6 (zx_cb j x y)) a = zy_j j (zb_t (zm_V 6 x) a) (zb_t (zm_V 6 y) a) := by
  match j, hj with
  | 0, _ =>
    show zb_t (zm_V 6 (zm_mu x y 64)) a = _
    rw [zm_mul, zb_and]; rfl
  | 1, _ =>
    show zb_t (zm_V 6 ((x ^^^ y) ^^^ zm_mu x y 64)) a = _
    rw [zm_Vx, zm_Vx, zm_mul, zb_xor, zb_xor, zb_and]
    cases zb_t (zm_V 6 x) a <;> cases zb_t (zm_V 6 y) a <;> rfl
  | 2, _ =>
    show zb_t (zm_V 6 (x ^^^ y)) a = _
    rw [zm_Vx, zb_xor]; rfl
  | 3, _ =>
    show zb_t (zm_V 6 ((x ^^^ y) ^^^ 1)) a = _
    rw [zm_Vx, zm_Vx, zm_V1, zb_xor, zb_xor, zb_m1 a ha]
    cases zb_t (zm_V 6 x) a <;> cases zb_t (zm_V 6 y) a <;> rfl
  | 4, _ =>
    show zb_t (zm_V 6 ((1 ^^^ x) ^^^ zm_mu x y 64)) a = _
    rw [zm_Vx, zm_Vx, zm_V1, zm_mul, zb_xor, zb_xor, zb_and, zb_m1 a ha]
    cases zb_t (zm_V 6 x) a <;> cases zb_t (zm_V 6 y) a <;> rfl
  | 5, _ =>
    show zb_t (zm_V 6 (1 ^^^ zm_mu x y 64)) a = _
    rw [zm_Vx, zm_V1, zm_mul, zb_xor, zb_and, zb_m1 a ha]
    cases zb_t (zm_V 6 x) a <;> cases zb_t (zm_V 6 y) a <;> rfl
  | n + 6, g => exact absurd g (by omega)
theorem zx_cmb {post : Int64 → Prop} {j : Nat} (hj : j < 6) {x y : Int64} (h : post (zx_cb j x y)) : wpX_combine post (nI j) x y := by
  unfold wpX_combine
  revert h
  match j, hj with
  | 0, _ => exact fun h => br_f (by decide) (br_f (by decide) (zx_mu (br_t (by decide) h)))
  | 1, _ => exact fun h => br_f (by decide) (br_f (by decide) (zx_mu (br_f (by decide) (br_t (by decide) h))))
  | 2, _ => exact fun h => br_t (by decide) h
  | 3, _ => exact fun h => br_f (by decide) (br_t (by decide) h)
  | 4, _ => exact fun h => br_f (by decide) (br_f (by decide) (zx_mu (br_f (by decide) (br_f (by decide) (br_t (by decide) h)))))
  | 5, _ => exact fun h => br_f (by decide) (br_f (by decide) (zx_mu (br_f (by decide) (br_f (by decide) (br_f (by decide) h)))))
  | n + 6, g => exact absurd g (by omega)
theorem zx_push {post : Int32 → SX → Prop} {d : Nat} (hd : d < 12) {s : Nat → Int64} {x : Int64} (h : post (nI (d + 1)) (nI (d + 1), vp_updL s d x)) : wpX_push post (nI d, s) x :=
  And.intro (vp_in_nI hd (by decide)) (nm_r (e' := vp_updL s d x) (by rw [nI_clamp (by omega)]) (nm_r (nI_1 d) h))
theorem zx_m2 (e : Nat) : nI (e + 2) - 2 = nI e := pk_sub (a := e + 2) (b := 2) (by omega)
theorem zx_join {post : Int32 → SX → Prop} {e j : Nat} (he : e + 2 ≤ 12) (hj : j < 6) {s : Nat → Int64} (h : post (nI (e + 1)) (nI (e + 1), vp_updL s e (zx_cb j (s e) (s (e + 1))))) : wpX_join post (nI (e + 2), s) (nI j) := by
  unfold wpX_join
  dsimp only
  rw [zx_m2, nI_pred, nI_clamp (n := e) (by omega), nI_clamp (n := e + 1) (by omega)]
  refine br_f (nI_pos (by omega)) (br_f (nI_nlt (b := j) (a := 5) (by omega) (by decide)) (br_t (nI_le (a := 2) (by omega) (by omega)) ?_))
  exact ⟨vp_in_nI (by omega) (by decide), nm_e ⟨vp_in_nI (by omega) (by decide), nm_e (nm_e (zx_cmb hj (zx_push (by omega) h)))⟩⟩
theorem zx_replace {post : Int32 → SX → Prop} {e v : Nat} (he : e + 2 ≤ 12) (hv : v < 6) {s : Nat → Int64} (h : post (nI (e + 1)) (nI (e + 1), vp_updL s e (zm_rp v (s (e + 1)) (s e)))) : wpX_replace post (nI (e + 2), s) (nI v) := by
  unfold wpX_replace
  dsimp only
  rw [zx_m2, nI_pred, nI_clamp (n := e) (by omega), nI_clamp (n := e + 1) (by omega)]
  refine br_f (nI_pos (by omega)) (br_f (nI_nlt (b := v) (a := 5) (by omega) (by decide)) (br_t (nI_le (a := 2) (by omega) (by omega)) ?_))
  exact ⟨vp_in_nI (by omega) (by decide), nm_e ⟨vp_in_nI (by omega) (by decide), nm_e (zx_pw hv (nm_e (zx_pw hv (nm_e (nm_e (zx_mu (nm_e (zx_push (by omega) h))))))))⟩⟩
/-! ===== degree ===== -/
def zd_p (n : Nat) : Int32 := nI (zp_c (zb_t (nI n).toInt64) 64)
def zd_m (s : Int64) : Nat → Int32
  | 0 => 0
  | n + 1 => if zb_t s n = true then (if zd_p n ≤ zd_m s n then zd_m s n else zd_p n) else zd_m s n
theorem zd_s (s : Int64) (n : Nat) : zd_m s (n + 1) = if zb_t s n = true then (if zd_p n ≤ zd_m s n then zd_m s n else zd_p n) else zd_m s n := rfl
theorem zx_dg {post : Int32 → Prop} (x : Int64) (fd : Int32) (sa : Nat → Int64) (h : post (zd_m x 64)) : ∀ d i, i + d = 64 → ∀ n, d < n → wX_degree_30 post x fd sa n (zd_m x i) (nI i) := by
  intro d
  induction d with
  | zero =>
    intro i hi n hn
    obtain ⟨m, rfl⟩ : ∃ m, n = m + 1 := ⟨n - 1, by omega⟩
    obtain rfl : i = 64 := by omega
    exact br_t (by decide) h
  | succ d ih =>
    intro i hi n hn
    obtain ⟨m, rfl⟩ : ∃ m, n = m + 1 := ⟨n - 1, by omega⟩
    have hv : i < 64 := by omega
    have k := ih (i + 1) (by omega) m (by omega)
    refine br_f (zx_ge (b := 64) hv (by decide)) (zx_ones ?_)
    cases e : zb_t x i
    · rw [zd_s, e, if_neg (by decide)] at k
      exact br_t ((zb_x0 x hv).mpr e) (nm_r (nI_1 i) k)
    · rw [zd_s, e, if_pos rfl] at k
      refine br_f (fun z => absurd ((zb_x0 x hv).mp z) (by rw [e]; decide)) ?_
      by_cases g : zd_p i ≤ zd_m x i
      · rw [if_pos g] at k
        exact br_t g (nm_r (nI_1 i) k)
      · rw [if_neg g] at k
        exact br_f g (nm_r (nI_1 i) k)
end
section
/-! ===== the reference's walks ===== -/
theorem zy_bit {post : Int32 → Prop} {x : Int64} {k : Nat} (hk : k < 64) (h : post (zb_i (zb_t x k))) : wpY_bit post x (nI k) := by
  unfold wpY_bit
  rw [zb_yb x hk]
  exact h
theorem zy_on4 {post : Int32 → Prop} (x : Int64) (h : post (nI (zp_c (zb_t x) 64))) : ∀ d i, i + d = 64 → ∀ n, d < n → wY_ones_4 post x n (nI (zp_c (zb_t x) i)) (nI i) := by
  intro d
  induction d with
  | zero =>
    intro i hi n hn
    obtain ⟨m, rfl⟩ : ∃ m, n = m + 1 := ⟨n - 1, by omega⟩
    obtain rfl : i = 64 := by omega
    exact br_t (by decide) h
  | succ d ih =>
    intro i hi n hn
    obtain ⟨m, rfl⟩ : ∃ m, n = m + 1 := ⟨n - 1, by omega⟩
    have hv : i < 64 := by omega
    have k := ih (i + 1) (by omega) m (by omega)
    have st : nI (zp_c (zb_t x) i) + zb_i (zb_t x i) = nI (zp_c (zb_t x) (i + 1)) := by
      rw [zb_iN, nI_add]
      rfl
    exact br_f (zx_ge (b := 64) hv (by decide)) (zy_bit hv (nm_r st (nm_r (nI_1 i) k)))
theorem zy_ones {post : Int32 → Prop} {x : Int64} (h : post (nI (zp_c (zb_t x) 64))) : wpY_ones post x := Exists.intro 65 (zy_on4 x h 64 0 (by omega) 65 (by omega))
/-! ===== the products found ===== -/
theorem zy_holds {post : Int32 → Prop} {p a : Nat} (hp : p < 64) (ha : a < 64) (h : post (zb_i (zm_sub p a 6))) : wpY_holds post (nI p) (nI a) := by
  have e : (nI a &&& nI p = nI p) ↔ zm_sub p a 6 = true := by
    rw [nx_and, nI_eq (Nat.lt_of_le_of_lt Nat.and_le_left (by omega)) (by omega)]
    exact zm_sub_and p hp a ha
  unfold wpY_holds
  cases g : zm_sub p a 6
  · rw [g] at h e
    exact br_f (fun z => absurd (e.mp z) (by decide)) h
  · rw [g] at h e
    exact br_t (e.mpr rfl) h
/-- one bit more, by xor -/
theorem zy_fx {x r : Int64} {c : Nat → Bool} {i : Nat} (hi : i < 64) (h : ∀ a, a < 64 → zb_t x a = (zb_t r a ^^ (decide (a < i) && c a))) (y : Int64) (hy : y = if c i = true then x ^^^ ((1 : Int64) <<< ((nI i).toInt64 &&& 63)) else x) : ∀ a, a < 64 → zb_t y a = (zb_t r a ^^ (decide (a < i + 1) && c a)) := by
  intro a ha
  have key : zb_t y a = (zb_t x a ^^ (c i && decide (i = a))) := by
    rw [hy]
    cases c i
    · rw [if_neg (by decide)]; simp
    · rw [if_pos rfl, zb_xor, zb_bit hi ha]; simp
  rw [key, h a ha]
  rcases Nat.lt_trichotomy a i with g | g | g
  · rw [decide_eq_true g, decide_eq_true (show a < i + 1 by omega), decide_eq_false (show ¬ i = a by omega)]
    cases zb_t r a <;> cases c a <;> cases c i <;> rfl
  · subst g
    rw [decide_eq_false (Nat.lt_irrefl a), decide_eq_true (show a < a + 1 by omega), decide_eq_true rfl]
    cases zb_t r a <;> cases c a <;> rfl
  · rw [decide_eq_false (show ¬ a < i by omega), decide_eq_false (show ¬ a < i + 1 by omega), decide_eq_false (show ¬ i = a by omega)]
    cases zb_t r a <;> cases c a <;> cases c i <;> rfl
/-- one bit more, by or -/
theorem zy_fo {x : Int64} {c : Nat → Bool} {i : Nat} (hi : i < 64) (h : ∀ a, a < 64 → zb_t x a = (decide (a < i) && c a)) (y : Int64) (hy : y = if c i = true then x ||| ((1 : Int64) <<< ((nI i).toInt64 &&& 63)) else x) : ∀ a, a < 64 → zb_t y a = (decide (a < i + 1) && c a) := by
  intro a ha
  have key : zb_t y a = (zb_t x a || (c i && decide (i = a))) := by
    rw [hy]
    cases c i
    · rw [if_neg (by decide)]; simp
    · rw [if_pos rfl, zb_or, zb_bit hi ha]; simp
  rw [key, h a ha]
  rcases Nat.lt_trichotomy a i with g | g | g
  · rw [decide_eq_true g, decide_eq_true (show a < i + 1 by omega), decide_eq_false (show ¬ i = a by omega)]
    cases c a <;> cases c i <;> rfl
  · subst g
    rw [decide_eq_false (Nat.lt_irrefl a), decide_eq_true (show a < a + 1 by omega), decide_eq_true rfl]
    cases c a <;> rfl
  · rw [decide_eq_false (show ¬ a < i by omega), decide_eq_false (show ¬ a < i + 1 by omega), decide_eq_false (show ¬ i = a by omega)]
    cases c a <;> cases c i <;> rfl
theorem zy_f64 {x y : Int64} (h : ∀ a, a < 64 → zb_t x a = (decide (a < 64) && zb_t y a)) : x = y := zb_ext (fun a ha => by rw [h a ha, decide_eq_true ha, Bool.true_and])
theorem zy_f0 (c : Nat → Bool) : ∀ a, a < 64 → zb_t 0 a = (decide (a < 0) && c a) := fun a _ => by rw [zb_0, decide_eq_false (Nat.not_lt_zero a), Bool.false_and]
theorem zy_37 {post : Int64 → Prop} {J : Int64 → Int64 → Int32 → Prop} {f r : Int64} {p : Nat} (hp : p < 64) (hJ : ∀ x, (∀ a, a < 64 → zb_t x a = (zb_t r a ^^ zm_sub p a 6)) → J x f (nI (p + 1))) : ∀ d i x, i + d = 64 → (∀ a, a < 64 → zb_t x a = (zb_t r a ^^ (decide (a < i) && zm_sub p a 6))) → ∀ n, d < n → wY_productsOf_37 post J f (nI p) n x (nI i) := by
  intro d
  induction d with
  | zero =>
    intro i x hi hx n hn
    obtain ⟨m, rfl⟩ : ∃ m, n = m + 1 := ⟨n - 1, by omega⟩
    obtain rfl : i = 64 := by omega
    exact br_t (by decide) (nm_r (nI_1 p) (hJ x (fun a ha => by rw [hx a ha, decide_eq_true ha, Bool.true_and])))
  | succ d ih =>
    intro i x hi hx n hn
    obtain ⟨m, rfl⟩ : ∃ m, n = m + 1 := ⟨n - 1, by omega⟩
    have hv : i < 64 := by omega
    have nx := zy_fx (c := fun a => zm_sub p a 6) hv hx
    refine br_f (zx_ge (b := 64) hv (by decide)) (zy_holds hp hv ?_)
    cases e : zm_sub p i 6
    · have k := ih (i + 1) x (by omega) (nx x (by rw [e]; rfl)) m (by omega)
      exact br_t (by decide) (nm_r (nI_1 i) k)
    · have k := ih (i + 1) _ (by omega) (nx (x ^^^ ((1 : Int64) <<< ((nI i).toInt64 &&& 63))) (by rw [e]; rfl)) m (by omega)
      exact br_f (by decide) (nm_e (nm_r (nI_1 i) k))
theorem zy_po8 {post : Int64 → Prop} (s : Int64) (h : post s) : ∀ d i x f, i + d = 64 → (∀ a, a < 64 → zb_t x a = zm_Z 6 (fun q => decide (i ≤ q) && zb_t s q) a) → (∀ a, a < 64 → zb_t f a = (decide (a < i) && zb_t s a)) → ∀ n, d < n → wY_productsOf_8 post n x f (nI i) := by
  intro d
  induction d with
  | zero =>
    intro i x f hi hx hf n hn
    obtain ⟨m, rfl⟩ : ∃ m, n = m + 1 := ⟨n - 1, by omega⟩
    obtain rfl : i = 64 := by omega
    obtain rfl : f = s := zy_f64 hf
    exact br_t (by decide) h
  | succ d ih =>
    intro i x f hi hx hf n hn
    obtain ⟨m, rfl⟩ : ∃ m, n = m + 1 := ⟨n - 1, by omega⟩
    have hv : i < 64 := by omega
    have nf := zy_fo (c := zb_t s) hv hf
    have hb : zb_t x i = zb_t s i := by
      rw [hx i hv, (zm_low (f := fun q => decide (i ≤ q) && zb_t s q) hv (fun q hq => by rw [decide_eq_false (show ¬ i ≤ q by omega), Bool.false_and]) 6 (by omega)).2]
      rw [decide_eq_true (Nat.le_refl i), Bool.true_and]
    refine br_f (zx_ge (b := 64) hv (by decide)) (zy_bit hv ?_)
    rw [hb]
    cases e : zb_t s i
    · have hx' : ∀ a, a < 64 → zb_t x a = zm_Z 6 (fun q => decide (i + 1 ≤ q) && zb_t s q) a := by
        intro a ha
        rw [hx a ha, zm_tail _ hv ha, e]
        simp
      have k := ih (i + 1) x f (by omega) hx' (nf f (by rw [e]; rfl)) m (by omega)
      exact br_f (by decide) (nm_r (nI_1 i) k)
    · refine br_t (by decide) (nm_e (Exists.intro 65 (zy_37 (r := x) hv ?_ 64 0 x (by omega) ?_ 65 (by omega))))
      · intro y hy
        refine ih (i + 1) y _ (by omega) ?_ (nf _ (by rw [e]; rfl)) m (by omega)
        intro a ha
        rw [hy a ha, hx a ha, zm_tail _ hv ha, e]
        cases zm_Z 6 (fun q => decide (i + 1 ≤ q) && zb_t s q) a <;> cases zm_sub i a 6 <;> rfl
      · intro a ha
        rw [decide_eq_false (Nat.not_lt_zero a), Bool.false_and, Bool.xor_false]
/-- the products found in the values of a sum are the sum's -/
theorem zy_po {post : Int64 → Prop} {s : Int64} (h : post s) : wpY_productsOf post (zm_V 6 s) := by
  refine Exists.intro 65 (zy_po8 s h 64 0 (zm_V 6 s) 0 (by omega) ?_ (zy_f0 _) 65 (by omega))
  intro a ha
  rw [zm_V6 s ha]
  exact zm_con (fun q _ => by rw [decide_eq_true (Nat.zero_le q), Bool.true_and]) 6 (by omega) a ha
/-! ===== the stores ===== -/
theorem zy_push {post : Int32 → SY → Prop} {d : Nat} (hd : d < 12) {t : Nat → Int64} {x : Int64} (h : post (nI (d + 1)) (nI (d + 1), vp_updL t d x)) : wpY_push post (nI d, t) x := by
  unfold wpY_push
  dsimp only
  refine br_f (fun z => ?_) (And.intro (vp_in_nI hd (by decide)) (nm_r (e' := vp_updL t d x) (by rw [nI_clamp (by omega)]) (nm_r (nI_1 d) h)))
  have := (nI_eq (a := d) (b := 12) (by omega) (by decide)).mp z
  omega
theorem zy_pushF {post : Int32 → SY → Prop} {t : Nat → Int64} {x : Int64} (h : post (-1) (nI 12, t)) : wpY_push post (nI 12, t) x := by
  unfold wpY_push
  dsimp only
  exact br_t rfl h
theorem zy_vc : ∀ v, v < 6 → ∀ a, a < 64 → (((nI a >>> (nI v &&& 31)) &&& 1) = 1 ↔ a.testBit v = true) := by decide +kernel
theorem zy_v16 {post : Int32 → SY → Prop} {v d0 : Nat} (hv : v < 6) (hd : d0 ≤ 12) {t : Nat → Int64} {R : Int64} (hR : ∀ a, a < 64 → zb_t R a = a.testBit v) (h1 : d0 < 12 → post (nI (d0 + 1)) (nI (d0 + 1), vp_updL t d0 R)) (h2 : d0 = 12 → post (-1) (nI d0, t)) : ∀ d i x, i + d = 64 → (∀ a, a < 64 → zb_t x a = (decide (a < i) && a.testBit v)) → ∀ n, d < n → wY_variable_16 post (nI v) (nI d0) t n x (nI i) := by
  intro d
  induction d with
  | zero =>
    intro i x hi hx n hn
    obtain ⟨m, rfl⟩ : ∃ m, n = m + 1 := ⟨n - 1, by omega⟩
    obtain rfl : i = 64 := by omega
    obtain rfl : x = R := zb_ext (fun a ha => by rw [hx a ha, hR a ha, decide_eq_true ha, Bool.true_and])
    refine br_t (by decide) ?_
    rcases Nat.lt_or_ge d0 12 with g | g
    · exact zy_push g (h1 g)
    · obtain rfl : d0 = 12 := by omega
      exact zy_pushF (h2 rfl)
  | succ d ih =>
    intro i x hi hx n hn
    obtain ⟨m, rfl⟩ : ∃ m, n = m + 1 := ⟨n - 1, by omega⟩
    have hv64 : i < 64 := by omega
    have nf := zy_fo (c := fun a => a.testBit v) hv64 hx
    refine br_f (zx_ge (b := 64) hv64 (by decide)) ?_
    cases e : i.testBit v
    · have k := ih (i + 1) x (by omega) (nf x (by rw [e]; rfl)) m (by omega)
      exact br_f (fun z => absurd ((zy_vc v hv i hv64).mp z) (by rw [e]; decide)) (nm_r (nI_1 i) k)
    · have k := ih (i + 1) _ (by omega) (nf (x ||| ((1 : Int64) <<< ((nI i).toInt64 &&& 63))) (by rw [e]; rfl)) m (by omega)
      exact br_t ((zy_vc v hv i hv64).mpr e) (nm_e (nm_r (nI_1 i) k))
/-! ===== join ===== -/
theorem zy_jd {post : Int32 → Prop} {j : Nat} (hj : j < 6) {p q : Bool} (h : post (zb_i (zy_j j p q))) : wpY_joined post (nI j) (zb_i p) (zb_i q) := by
  unfold wpY_joined
  revert h
  match j, hj with
  | 0, _ => cases p <;> cases q <;> intro h <;> repeat (first | exact h | refine br_t (by decide) ?_ | refine br_f (by decide) ?_)
  | 1, _ => cases p <;> cases q <;> intro h <;> repeat (first | exact h | refine br_t (by decide) ?_ | refine br_f (by decide) ?_)
  | 2, _ => cases p <;> cases q <;> intro h <;> repeat (first | exact h | refine br_t (by decide) ?_ | refine br_f (by decide) ?_)
  | 3, _ => cases p <;> cases q <;> intro h <;> repeat (first | exact h | refine br_t (by decide) ?_ | refine br_f (by decide) ?_)
  | 4, _ => cases p <;> cases q <;> intro h <;> repeat (first | exact h | refine br_t (by decide) ?_ | refine br_f (by decide) ?_)
  | 5, _ => cases p <;> cases q <;> intro h <;> repeat (first | exact h | refine br_t (by decide) ?_ | refine br_f (by decide) ?_)
  | n + 6, g => exact absurd g (by omega)
theorem zy_83 {post : Int32 → SY → Prop} {J : Int64 → Int32 → Prop} {j i : Nat} (hj : j < 6) {x : Int64} {p q : Bool} {fh : Int32} {t : Nat → Int64} (h : J (if zy_j j p q = true then x ||| ((1 : Int64) <<< ((nI i).toInt64 &&& 63)) else x) (nI (i + 1))) : wY_join_83 post J (nI j) x (nI i) (zb_i p) (zb_i q) fh t := by
  unfold wY_join_83
  refine zy_jd hj ?_
  cases e : zy_j j p q
  · rw [e, if_neg (by decide)] at h
    exact br_t (by decide) (nm_r (nI_1 i) h)
  · rw [e, if_pos rfl] at h
    exact br_f (by decide) (nm_e (nm_r (nI_1 i) h))
theorem zy_56 {post : Int32 → SY → Prop} {J : Int64 → Int32 → Prop} {j i e : Nat} (hj : j < 6) (hi : i < 64) (he : e + 2 ≤ 12) {x : Int64} {p : Bool} {t : Nat → Int64} (h : J (if zy_j j p (zb_t (t (e + 1)) i) = true then x ||| ((1 : Int64) <<< ((nI i).toInt64 &&& 63)) else x) (nI (i + 1))) : wY_join_56 post J (nI j) x (nI i) (zb_i p) (nI (e + 2)) t := by
  unfold wY_join_56
  rw [nI_pred, nI_clamp (n := e + 1) (by omega)]
  refine And.intro (vp_in_nI (by omega) (by decide)) (zy_bit hi ?_)
  cases g : zb_t (t (e + 1)) i
  · rw [g] at h
    exact br_f (by decide) (zy_83 (q := false) hj h)
  · rw [g] at h
    exact br_t (by decide) (zy_83 (q := true) hj h)
theorem zy_24 {post : Int32 → SY → Prop} {j e : Nat} (hj : j < 6) (he : e + 2 ≤ 12) {t : Nat → Int64} {R : Int64} (hR : ∀ a, a < 64 → zb_t R a = zy_j j (zb_t (t e) a) (zb_t (t (e + 1)) a)) (h : post (nI (e + 1)) (nI (e + 1), vp_updL t e R)) : ∀ d i x, i + d = 64 → (∀ a, a < 64 → zb_t x a = (decide (a < i) && zy_j j (zb_t (t e) a) (zb_t (t (e + 1)) a))) → ∀ n, d < n → wY_join_24 post (nI j) (nI (e + 2)) t n x (nI i) := by
  intro d
  induction d with
  | zero =>
    intro i x hi hx n hn
    obtain ⟨m, rfl⟩ : ∃ m, n = m + 1 := ⟨n - 1, by omega⟩
    obtain rfl : i = 64 := by omega
    obtain rfl : x = R := zb_ext (fun a ha => by rw [hx a ha, hR a ha, decide_eq_true ha, Bool.true_and])
    refine br_t (by decide) (nm_r (nI_pred (e + 1)) ?_)
    rw [nI_pred e, nI_clamp (n := e) (by omega)]
    exact And.intro (vp_in_nI (by omega) (by decide)) (nm_e h)
  | succ d ih =>
    intro i x hi hx n hn
    obtain ⟨m, rfl⟩ : ∃ m, n = m + 1 := ⟨n - 1, by omega⟩
    have hv : i < 64 := by omega
    have nf := zy_fo (c := fun a => zy_j j (zb_t (t e) a) (zb_t (t (e + 1)) a)) hv hx
    have k := ih (i + 1) _ (by omega) (nf _ rfl) m (by omega)
    refine br_f (zx_ge (b := 64) hv (by decide)) ?_
    rw [zx_m2, nI_clamp (n := e) (by omega)]
    refine And.intro (vp_in_nI (by omega) (by decide)) (zy_bit hv ?_)
    cases g : zb_t (t e) i
    · rw [g] at k
      exact br_f (by decide) (zy_56 (p := false) hj hv he k)
    · rw [g] at k
      exact br_t (by decide) (zy_56 (p := true) hj hv he k)
theorem zy_join {post : Int32 → SY → Prop} {j e : Nat} (hj : j < 6) (he : e + 2 ≤ 12) {t : Nat → Int64} {R : Int64} (hR : ∀ a, a < 64 → zb_t R a = zy_j j (zb_t (t e) a) (zb_t (t (e + 1)) a)) (h : post (nI (e + 1)) (nI (e + 1), vp_updL t e R)) : wpY_join post (nI (e + 2), t) (nI j) := by
  unfold wpY_join
  dsimp only
  refine br_f (nI_nlt (b := 2) (by omega) (by omega)) (br_f (nI_pos (by omega)) (br_t (nI_le (b := 5) (by omega) (by decide)) ?_))
  exact Exists.intro 65 (zy_24 hj he hR h 64 0 0 (by omega) (zy_f0 _) 65 (by omega))
/-! ===== replace ===== -/
theorem zy_rx : ∀ v, v < 6 → ∀ a, a < 64 → ∀ c : Bool, (nI a &&& (((1 : Int32) <<< (nI v &&& 31)) ^^^ (-1))) ||| (zb_i c <<< (nI v &&& 31)) = nI (zm_r v a c) := by decide +kernel
theorem zy_50 {post : Int32 → SY → Prop} {v e : Nat} (hv : v < 6) (he : e + 2 ≤ 12) {t : Nat → Int64} {R w b : Int64} (hR : ∀ a, a < 64 → zb_t R a = zb_t w (zm_r v a (zb_t b a))) (h : post (nI (e + 1)) (nI (e + 1), vp_updL t e R)) : ∀ d i x, i + d = 64 → (∀ a, a < 64 → zb_t x a = (decide (a < i) && zb_t w (zm_r v a (zb_t b a)))) → ∀ n, d < n → wY_replace_50 post (nI v) w b (nI (e + 2)) t n x (nI i) := by
  intro d
  induction d with
  | zero =>
    intro i x hi hx n hn
    obtain ⟨m, rfl⟩ : ∃ m, n = m + 1 := ⟨n - 1, by omega⟩
    obtain rfl : i = 64 := by omega
    obtain rfl : x = R := zb_ext (fun a ha => by rw [hx a ha, hR a ha, decide_eq_true ha, Bool.true_and])
    refine br_t (by decide) (nm_r (nI_pred (e + 1)) ?_)
    rw [nI_pred e, nI_clamp (n := e) (by omega)]
    exact And.intro (vp_in_nI (by omega) (by decide)) (nm_e h)
  | succ d ih =>
    intro i x hi hx n hn
    obtain ⟨m, rfl⟩ : ∃ m, n = m + 1 := ⟨n - 1, by omega⟩
    have hi64 : i < 64 := by omega
    have nf := zy_fo (c := fun a => zb_t w (zm_r v a (zb_t b a))) hi64 hx
    have k := ih (i + 1) _ (by omega) (nf _ rfl) m (by omega)
    refine br_f (zx_ge (b := 64) hi64 (by decide)) (zy_bit hi64 (nm_r (zy_rx v hv i hi64 (zb_t b i)) (zy_bit (zm_r64 hv hi64 _) ?_)))
    cases g : zb_t w (zm_r v i (zb_t b i))
    · rw [g, if_neg (by decide)] at k
      exact br_f (by decide) (nm_r (nI_1 i) k)
    · rw [g, if_pos rfl] at k
      exact br_t (by decide) (nm_e (nm_r (nI_1 i) k))
theorem zy_replace {post : Int32 → SY → Prop} {v e : Nat} (hv : v < 6) (he : e + 2 ≤ 12) {t : Nat → Int64} {R : Int64} (hR : ∀ a, a < 64 → zb_t R a = zb_t (t (e + 1)) (zm_r v a (zb_t (t e) a))) (h : post (nI (e + 1)) (nI (e + 1), vp_updL t e R)) : wpY_replace post (nI (e + 2), t) (nI v) := by
  unfold wpY_replace
  dsimp only
  rw [zx_m2, nI_pred, nI_clamp (n := e) (by omega), nI_clamp (n := e + 1) (by omega)]
  refine br_f (nI_nlt (b := 2) (by omega) (by omega)) (br_f (nI_pos (by omega)) (br_t (nI_le (b := 5) (by omega) (by decide)) ?_))
  exact And.intro (vp_in_nI (by omega) (by decide)) (nm_e (And.intro (vp_in_nI (by omega) (by decide)) (nm_e (Exists.intro 65 (zy_50 hv he hR h 64 0 0 (by omega) (zy_f0 _) 65 (by omega))))))
/-! ===== degree ===== -/
theorem zy_dg {post : Int32 → Prop} (x : Int64) (fh : Int32) (ta : Nat → Int64) (h : post (zd_m x 64)) : ∀ d i, i + d = 64 → ∀ n, d < n → wY_degree_22 post x fh ta n (zd_m x i) (nI i) := by
  intro d
  induction d with
  | zero =>
    intro i hi n hn
    obtain ⟨m, rfl⟩ : ∃ m, n = m + 1 := ⟨n - 1, by omega⟩
    obtain rfl : i = 64 := by omega
    exact br_t (by decide) h
  | succ d ih =>
    intro i hi n hn
    obtain ⟨m, rfl⟩ : ∃ m, n = m + 1 := ⟨n - 1, by omega⟩
    have hv : i < 64 := by omega
    have k := ih (i + 1) (by omega) m (by omega)
    refine br_f (zx_ge (b := 64) hv (by decide)) (zy_bit hv ?_)
    cases e : zb_t x i
    · rw [zd_s, e, if_neg (by decide)] at k
      exact br_f (by decide) (nm_r (nI_1 i) k)
    · rw [zd_s, e, if_pos rfl] at k
      refine br_t (by decide) (zy_ones ?_)
      by_cases g : zd_p i ≤ zd_m x i
      · rw [if_pos g] at k
        exact br_t g (nm_r (nI_1 i) k)
      · rw [if_neg g] at k
        exact br_f g (zy_ones (nm_r (nI_1 i) k))
end
section
/-! ===== the relation, and small rows for the owed theorems ===== -/
/-- both stacks have one height d, and each of the reference's words holds the values of X's sum -/
def i_Rel (_ : Nat) (u : SX) (v : SY) : Prop := ∃ (d : Nat) (s t : Nat → Int64), d ≤ 12 ∧ u = (nI d, s) ∧ v = (nI d, t) ∧ ∀ i, i < d → t i = zm_V 6 (s i)
theorem i_up {k : Nat} {u : SX} {v : SY} (h : i_Rel k u v) : i_Rel (k + 3) u v := h
theorem i_vc0 : wpX_init (fun u => wpY_init (fun v => i_Rel 0 u v)) := by
  unfold wpX_init wpY_init
  exact ⟨0, fun _ => 0, fun _ => 0, by omega, rfl, rfl, fun i hi => by omega⟩
theorem zz_upd {k e m : Nat} {s t : Nat → Int64} {x y : Int64} (he : e ≤ 12) (h : ∀ i, i < e → i ≠ m → t i = zm_V 6 (s i)) (hy : y = zm_V 6 x) : i_Rel k (nI e, vp_updL s m x) (nI e, vp_updL t m y) := by
  refine ⟨e, _, _, he, rfl, rfl, ?_⟩
  intro i hi
  by_cases g : i = m
  · subst g
    rw [pk_uLs, pk_uLs]
    exact hy
  · rw [pk_uLn g, pk_uLn g]
    exact h i hi g
theorem zz_hi {v : Int32} (h : nI 6 ≤ v) : ¬ v < 0 ∧ 5 < v ∧ ¬ v ≤ 5 := by
  have h6 : (nI 6).toInt = 6 := by decide
  have h5 : (5 : Int32).toInt = 5 := by decide
  have h0 : (0 : Int32).toInt = 0 := by decide
  rw [Int32.le_iff_toInt_le, h6] at h
  rw [Int32.lt_iff_toInt_lt, Int32.lt_iff_toInt_lt, Int32.le_iff_toInt_le, h5, h0]
  omega
theorem zz_hi64 {v : Int32} (h : nI 64 ≤ v) : ¬ v < 0 ∧ ¬ v ≤ 63 := by
  have h6 : (nI 64).toInt = 64 := by decide
  have h5 : (63 : Int32).toInt = 63 := by decide
  have h0 : (0 : Int32).toInt = 0 := by decide
  rw [Int32.le_iff_toInt_le, h6] at h
  rw [Int32.lt_iff_toInt_lt, Int32.le_iff_toInt_le, h5, h0]
  omega
theorem zz_ix {d k : Nat} (h : k < d) : (nI d - 1) - nI k = nI (d - 1 - k) := by
  have e : nI d - 1 = nI (d - 1) := pk_sub (a := d) (b := 1) (by omega)
  rw [e, pk_sub (by omega)]
theorem zx_f0 {post : Int32 → Prop} {d : Nat} {s : Nat → Int64} {v : Int32} (h : v < 0 ∨ nI d ≤ v) (hp : post 0) : wpX_isFormula post (nI d, s) v := by
  unfold wpX_isFormula
  dsimp only
  by_cases g : v < 0
  · exact br_t g hp
  · exact br_f g (br_t (h.resolve_left g) hp)
theorem zx_f1 {post : Int32 → Prop} {d k : Nat} (hk : k < d) (hd : d ≤ 12) {s : Nat → Int64} (hp : post 1) : wpX_isFormula post (nI d, s) (nI k) := by
  unfold wpX_isFormula
  dsimp only
  exact br_f (nI_pos (by omega)) (br_f (nI_ge hk (by omega)) hp)
theorem zy_m1 {post : Int32 → Prop} {d : Nat} {t : Nat → Int64} {v : Int32} (h : v < 0 ∨ nI d ≤ v) (hp : post 1) : wpY_missing post (nI d, t) v := by
  unfold wpY_missing
  dsimp only
  by_cases g : v < 0
  · exact br_t g hp
  · exact br_f g (br_f (Int32.not_lt.mpr (h.resolve_left g)) hp)
theorem zy_m0 {post : Int32 → Prop} {d k : Nat} (hk : k < d) (hd : d ≤ 12) {t : Nat → Int64} (hp : post 0) : wpY_missing post (nI d, t) (nI k) := by
  unfold wpY_missing
  dsimp only
  exact br_f (nI_pos (by omega)) (br_t (nI_lt hk (by omega)) hp)
theorem zy_found {post : Int64 → Prop} {d k : Nat} (hk : k < d) (hd : d ≤ 12) {s t : Nat → Int64} (hr : ∀ i, i < d → t i = zm_V 6 (s i)) (h : post (s (d - 1 - k))) : wpY_found post (nI d, t) (nI k) := by
  unfold wpY_found
  dsimp only
  rw [zz_ix hk, nI_clamp (n := d - 1 - k) (by omega), hr (d - 1 - k) (by omega)]
  exact And.intro (vp_in_nI (by omega) (by decide)) (zy_po h)
/-! ===== the lowest bit ===== -/
theorem zp_lb {v : Int64} {a : Nat} (ha : a < 64) (h1 : zb_t v a = true) (h0 : ∀ b, b < a → zb_t v b = false) : (v &&& (-v)) - 1 = lN (2 ^ a - 1) := by
  have e : v &&& (-v) = lN (2 ^ a) := by
    apply zb_ext
    intro i hi
    rw [zb_lN hi, Nat.testBit_two_pow, zb_and]
    have n : zb_t (-v) i = (zb_t v i ^^ (decide (i < 64) && decide (∃ j, j < i ∧ zb_t v j = true))) := by
      unfold zb_t
      rw [Int64.toBitVec_neg]
      exact BitVec.getLsbD_neg
    rw [n, decide_eq_true hi, Bool.true_and]
    rcases Nat.lt_trichotomy i a with g | g | g
    · rw [h0 i g, Bool.false_and, decide_eq_false (show ¬ a = i by omega)]
    · subst g
      rw [h1, decide_eq_true rfl, decide_eq_false]
      · rfl
      · rintro ⟨j, hj, ej⟩
        rw [h0 j hj] at ej
        exact absurd ej (by decide)
    · rw [decide_eq_true (p := ∃ j, j < i ∧ zb_t v j = true) ⟨a, g, h1⟩, decide_eq_false (show ¬ a = i by omega)]
      cases zb_t v i <;> rfl
  rw [e]
  exact lN_sub (b := 1) (Nat.two_pow_pos a)
theorem zp_lc {a : Nat} (ha : a ≤ 64) : zp_c (zb_t (lN (2 ^ a - 1))) 64 = a := by
  rw [zp_con (g := fun i => decide (i < a)) 64 (fun i hi => by rw [zb_lN hi, Nat.testBit_two_pow_sub_one])]
  have h := zp_ge (64 - a) a
  rw [show a + (64 - a) = 64 by omega] at h
  exact h
theorem zy_20 {post : Int32 → Prop} {d k l r : Nat} (hk : k < d) (hl : l < d) (hd : d ≤ 12) {t : Nat → Int64} (hr : r ≤ 64) (h0 : ∀ b, b < r → zb_t (t (d - 1 - k)) b = zb_t (t (d - 1 - l)) b) (h1 : r < 64 → ¬ zb_t (t (d - 1 - k)) r = zb_t (t (d - 1 - l)) r) (h : post (nI r)) : ∀ e i, i + e = r → ∀ n, e < n → wY_differ_20 post (nI k) (nI l) (nI d) t n (nI i) := by
  intro e
  induction e with
  | zero =>
    intro i hi n hn
    obtain ⟨m, rfl⟩ : ∃ m, n = m + 1 := ⟨n - 1, by omega⟩
    obtain rfl : i = r := by omega
    rcases Nat.lt_or_ge i 64 with g | g
    · refine br_f (zx_ge (b := 64) g (by decide)) ?_
      rw [zz_ix hk, zz_ix hl, nI_clamp (n := d - 1 - k) (by omega), nI_clamp (n := d - 1 - l) (by omega)]
      refine And.intro (vp_in_nI (by omega) (by decide)) (zy_bit g (And.intro (vp_in_nI (by omega) (by decide)) (zy_bit g ?_)))
      exact br_f (fun z => h1 g (zb_ij.mp z)) h
    · obtain rfl : i = 64 := by omega
      exact br_t (by decide) h
  | succ e ih =>
    intro i hi n hn
    obtain ⟨m, rfl⟩ : ∃ m, n = m + 1 := ⟨n - 1, by omega⟩
    have g : i < 64 := by omega
    have kk := ih (i + 1) (by omega) m (by omega)
    refine br_f (zx_ge (b := 64) g (by decide)) ?_
    rw [zz_ix hk, zz_ix hl, nI_clamp (n := d - 1 - k) (by omega), nI_clamp (n := d - 1 - l) (by omega)]
    refine And.intro (vp_in_nI (by omega) (by decide)) (zy_bit g (And.intro (vp_in_nI (by omega) (by decide)) (zy_bit g ?_)))
    exact br_t (zb_ij.mpr (h0 i (by omega))) (nm_r (nI_1 i) kk)
end
section
theorem i_vc_variable {k : Nat} {u : SX} {v : SY} (I : i_Rel k u v) (hk : k + 3 ≤ 1536) (v1 : Int32) : wpX_variable (fun r u' => wpY_variable (fun r' v' => r' = r ∧ i_Rel (k + 3) u' v') v v1) u v1 := by
  obtain ⟨d, s, t, hd, rfl, rfl, hr⟩ := I
  have I' : i_Rel (k + 3) (nI d, s) (nI d, t) := ⟨d, s, t, hd, rfl, rfl, hr⟩
  unfold wpX_variable wpY_variable
  dsimp only
  rcases pk_ix v1 (n := 6) (by decide) with h | h | ⟨j, hj, rfl⟩
  · exact br_t h (br_t h ⟨rfl, I'⟩)
  · obtain ⟨a1, a2, a3⟩ := zz_hi h
    exact br_f a1 (br_t a2 (br_f a1 (br_f a3 ⟨rfl, I'⟩)))
  · have p0 : ¬ nI j < 0 := nI_pos (by omega)
    have p1 : ¬ 5 < nI j := nI_nlt (b := j) (a := 5) (by omega) (by decide)
    have p2 : nI j ≤ 5 := nI_le (b := 5) (by omega) (by decide)
    rcases Nat.lt_or_ge d 12 with g | g
    · refine br_f p0 (br_f p1 (br_t (nI_lt (b := 12) g (by decide)) (zx_push g (br_f p0 (br_t p2 (Exists.intro 65 ?_))))))
      exact zy_v16 (R := zm_V 6 ((1 : Int64) <<< (((1 : Int32) <<< (nI j &&& 31)).toInt64 &&& 63))) hj hd (zm_Vv j hj) (fun _ => ⟨rfl, zz_upd (by omega) (fun i hi hne => hr i (by omega)) rfl⟩) (fun z => absurd z (by omega)) 64 0 0 (by omega) (zy_f0 _) 65 (by omega)
    · obtain rfl : d = 12 := by omega
      refine br_f p0 (br_f p1 (br_f (by decide) (br_f p0 (br_t p2 (Exists.intro 65 ?_)))))
      exact zy_v16 (R := zm_V 6 ((1 : Int64) <<< (((1 : Int32) <<< (nI j &&& 31)).toInt64 &&& 63))) hj hd (zm_Vv j hj) (fun z => absurd z (by omega)) (fun _ => ⟨rfl, I'⟩) 64 0 0 (by omega) (zy_f0 _) 65 (by omega)
theorem i_vc_constant {k : Nat} {u : SX} {v : SY} (I : i_Rel k u v) (hk : k + 3 ≤ 1536) (v1 : Int32) : wpX_constant (fun r u' => wpY_constant (fun r' v' => r' = r ∧ i_Rel (k + 3) u' v') v v1) u v1 := by
  obtain ⟨d, s, t, hd, rfl, rfl, hr⟩ := I
  have I' : i_Rel (k + 3) (nI d, s) (nI d, t) := ⟨d, s, t, hd, rfl, rfl, hr⟩
  unfold wpX_constant wpY_constant wY_constant_15
  dsimp only
  rw [zb_lo v1]
  rcases Nat.lt_or_ge d 12 with g | g
  · cases bt v1 0
    · exact br_t (nI_lt (b := 12) g (by decide)) (zx_push g (br_f (by decide) (zy_push g ⟨rfl, zz_upd (by omega) (fun i hi hne => hr i (by omega)) (by rw [show (zb_i false).toInt64 = 0 from by decide]; exact zm_V0.symm)⟩)))
    · exact br_t (nI_lt (b := 12) g (by decide)) (zx_push g (br_t (by decide) (zy_push g ⟨rfl, zz_upd (by omega) (fun i hi hne => hr i (by omega)) (by rw [show (zb_i true).toInt64 = 1 from by decide]; exact zm_V1.symm)⟩)))
  · obtain rfl : d = 12 := by omega
    cases bt v1 0
    · exact br_f (by decide) (br_f (by decide) (zy_pushF ⟨rfl, I'⟩))
    · exact br_f (by decide) (br_t (by decide) (zy_pushF ⟨rfl, I'⟩))
theorem i_vc_join {k : Nat} {u : SX} {v : SY} (I : i_Rel k u v) (hk : k + 3 ≤ 1536) (v1 : Int32) : wpX_join (fun r u' => wpY_join (fun r' v' => r' = r ∧ i_Rel (k + 3) u' v') v v1) u v1 := by
  obtain ⟨d, s, t, hd, rfl, rfl, hr⟩ := I
  have I' : i_Rel (k + 3) (nI d, s) (nI d, t) := ⟨d, s, t, hd, rfl, rfl, hr⟩
  rcases Nat.lt_or_ge d 2 with g | g
  · have q1 : ¬ 2 ≤ nI d := nI_ge (b := 2) g (by decide)
    have q2 : nI d < 2 := nI_lt (b := 2) g (by decide)
    unfold wpX_join wpY_join
    dsimp only
    exact br_c (fun _ => br_t q2 ⟨rfl, I'⟩) (fun _ => br_c (fun _ => br_t q2 ⟨rfl, I'⟩) (fun _ => br_f q1 (br_t q2 ⟨rfl, I'⟩)))
  · obtain ⟨e, rfl⟩ : ∃ e, d = e + 2 := ⟨d - 2, by omega⟩
    have q2 : ¬ nI (e + 2) < 2 := nI_nlt (b := 2) (by omega) (by omega)
    rcases pk_ix v1 (n := 6) (by decide) with h | h | ⟨j, hj, rfl⟩
    · unfold wpX_join wpY_join
      dsimp only
      exact br_t h (br_f q2 (br_t h ⟨rfl, I'⟩))
    · obtain ⟨a1, a2, a3⟩ := zz_hi h
      unfold wpX_join wpY_join
      dsimp only
      exact br_f a1 (br_t a2 (br_f q2 (br_f a1 (br_f a3 ⟨rfl, I'⟩))))
    · refine zx_join hd hj (zy_join (R := zm_V 6 (zx_cb j (s e) (s (e + 1)))) hj hd ?_ ⟨rfl, zz_upd (by omega) (fun i hi hne => hr i (by omega)) rfl⟩)
      intro a ha
      rw [hr e (by omega), hr (e + 1) (by omega)]
      exact zx_cbb hj _ _ ha
theorem i_vc_not {k : Nat} {u : SX} {v : SY} (I : i_Rel k u v) (hk : k + 3 ≤ 1536) : wpX_not (fun r u' => wpY_not (fun r' v' => r' = r ∧ i_Rel (k + 3) u' v') v) u := by
  obtain ⟨d, s, t, hd, rfl, rfl, hr⟩ := I
  have I' : i_Rel (k + 3) (nI d, s) (nI d, t) := ⟨d, s, t, hd, rfl, rfl, hr⟩
  unfold wpX_not wpY_not
  dsimp only
  cases d with
  | zero => exact br_f (by decide) (br_t rfl ⟨rfl, I'⟩)
  | succ e =>
    have hin : vp_in (nI e) 12 := vp_in_nI (by omega) (by decide)
    rw [nI_pred, nI_clamp (n := e) (by omega)]
    refine br_t (nI_le (a := 1) (by omega) (by omega)) (And.intro hin (And.intro hin (nm_e (br_f (nI_ne0 (by omega) (by omega)) (And.intro hin (And.intro hin (nm_e ⟨rfl, zz_upd hd (fun i hi hne => hr i hi) ?_⟩)))))))
    rw [zm_Vx, zm_V1, hr e (by omega)]
theorem i_vc_copy {k : Nat} {u : SX} {v : SY} (I : i_Rel k u v) (hk : k + 3 ≤ 1536) (v1 : Int32) : wpX_copy (fun r u' => wpY_copy (fun r' v' => r' = r ∧ i_Rel (k + 3) u' v') v v1) u v1 := by
  obtain ⟨d, s, t, hd, rfl, rfl, hr⟩ := I
  have I' : i_Rel (k + 3) (nI d, s) (nI d, t) := ⟨d, s, t, hd, rfl, rfl, hr⟩
  have no : (v1 < 0 ∨ nI d ≤ v1) → wpX_copy (fun r u' => wpY_copy (fun r' v' => r' = r ∧ i_Rel (k + 3) u' v') (nI d, t) v1) (nI d, s) v1 := by
    intro h
    unfold wpX_copy wpY_copy
    dsimp only
    exact zx_f0 h (br_t rfl (zy_m1 h (br_f (by decide) ⟨rfl, I'⟩)))
  rcases pk_ix v1 (n := d) (by omega) with h | h | ⟨j, hj, rfl⟩
  · exact no (Or.inl h)
  · exact no (Or.inr h)
  · have hin : vp_in (nI (d - 1 - j)) 12 := vp_in_nI (by omega) (by decide)
    unfold wpX_copy wpY_copy
    dsimp only
    rw [zz_ix hj, nI_clamp (n := d - 1 - j) (by omega)]
    rcases Nat.lt_or_ge d 12 with g | g
    · exact zx_f1 hj hd (br_f (by decide) (br_t (nI_lt (b := 12) g (by decide)) (And.intro hin (zx_push g (zy_m0 hj hd (br_t rfl (And.intro hin (zy_push g ⟨rfl, zz_upd (by omega) (fun i hi hne => hr i (by omega)) (hr _ (by omega))⟩))))))))
    · obtain rfl : d = 12 := by omega
      exact zx_f1 hj hd (br_f (by decide) (br_f (by decide) (zy_m0 hj hd (br_t rfl (And.intro hin (zy_pushF ⟨rfl, I'⟩))))))
theorem i_vc_drop {k : Nat} {u : SX} {v : SY} (I : i_Rel k u v) (hk : k + 3 ≤ 1536) : wpX_drop (fun r u' => wpY_drop (fun r' v' => r' = r ∧ i_Rel (k + 3) u' v') v) u := by
  obtain ⟨d, s, t, hd, rfl, rfl, hr⟩ := I
  have I' : i_Rel (k + 3) (nI d, s) (nI d, t) := ⟨d, s, t, hd, rfl, rfl, hr⟩
  unfold wpX_drop wpY_drop
  dsimp only
  cases d with
  | zero => exact br_f (by decide) (br_t rfl ⟨rfl, I'⟩)
  | succ e =>
    exact br_t (nI_le (a := 1) (by omega) (by omega)) (nm_r (nI_pred e) (br_f (nI_ne0 (by omega) (by omega)) (nm_r (nI_pred e) ⟨rfl, e, s, t, by omega, rfl, rfl, fun i hi => hr i (by omega)⟩)))
theorem i_vc_replace {k : Nat} {u : SX} {v : SY} (I : i_Rel k u v) (hk : k + 3 ≤ 1536) (v1 : Int32) : wpX_replace (fun r u' => wpY_replace (fun r' v' => r' = r ∧ i_Rel (k + 3) u' v') v v1) u v1 := by
  obtain ⟨d, s, t, hd, rfl, rfl, hr⟩ := I
  have I' : i_Rel (k + 3) (nI d, s) (nI d, t) := ⟨d, s, t, hd, rfl, rfl, hr⟩
  rcases Nat.lt_or_ge d 2 with g | g
  · have q1 : ¬ 2 ≤ nI d := nI_ge (b := 2) g (by decide)
    have q2 : nI d < 2 := nI_lt (b := 2) g (by decide)
    unfold wpX_replace wpY_replace
    dsimp only
    exact br_c (fun _ => br_t q2 ⟨rfl, I'⟩) (fun _ => br_c (fun _ => br_t q2 ⟨rfl, I'⟩) (fun _ => br_f q1 (br_t q2 ⟨rfl, I'⟩)))
  · obtain ⟨e, rfl⟩ : ∃ e, d = e + 2 := ⟨d - 2, by omega⟩
    have q2 : ¬ nI (e + 2) < 2 := nI_nlt (b := 2) (by omega) (by omega)
    rcases pk_ix v1 (n := 6) (by decide) with h | h | ⟨j, hj, rfl⟩
    · unfold wpX_replace wpY_replace
      dsimp only
      exact br_t h (br_f q2 (br_t h ⟨rfl, I'⟩))
    · obtain ⟨a1, a2, a3⟩ := zz_hi h
      unfold wpX_replace wpY_replace
      dsimp only
      exact br_f a1 (br_t a2 (br_f q2 (br_f a1 (br_f a3 ⟨rfl, I'⟩))))
    · refine zx_replace hd hj (zy_replace (R := zm_V 6 (zm_rp j (s (e + 1)) (s e))) hj hd ?_ ⟨rfl, zz_upd (by omega) (fun i hi hne => hr i (by omega)) rfl⟩)
      intro a ha
      rw [hr e (by omega), hr (e + 1) (by omega)]
      exact zm_rpb _ _ hj ha
theorem i_vc_products {k : Nat} {u : SX} {v : SY} (I : i_Rel k u v) (hk : k + 3 ≤ 1536) (v1 : Int32) : wpX_products (fun r => wpY_products (fun r' => r' = r ∧ i_Rel (k + 3) u v) v v1) u v1 := by
  obtain ⟨d, s, t, hd, rfl, rfl, hr⟩ := I
  have I' : i_Rel (k + 3) (nI d, s) (nI d, t) := ⟨d, s, t, hd, rfl, rfl, hr⟩
  unfold wpX_products wpY_products
  dsimp only
  by_cases h : v1 < 0 ∨ nI d ≤ v1
  · exact zx_f0 h (br_t rfl (zy_m1 h (br_f (by decide) ⟨rfl, I'⟩)))
  · rcases pk_ix v1 (n := d) (by omega) with g | g | ⟨j, hj, rfl⟩
    · exact absurd (Or.inl g) h
    · exact absurd (Or.inr g) h
    · have hin : vp_in (nI (d - 1 - j)) 12 := vp_in_nI (by omega) (by decide)
      rw [zz_ix hj, nI_clamp (n := d - 1 - j) (by omega)]
      exact zx_f1 hj hd (br_f (by decide) (And.intro hin (zx_ones (zy_m0 hj hd (br_t rfl (zy_found hj hd hr (zy_ones ⟨rfl, I'⟩)))))))
theorem i_vc_has {k : Nat} {u : SX} {v : SY} (I : i_Rel k u v) (hk : k + 3 ≤ 1536) (v1 : Int32) (v2 : Int32) : wpX_has (fun r => wpY_has (fun r' => r' = r ∧ i_Rel (k + 3) u v) v v1 v2) u v1 v2 := by
  obtain ⟨d, s, t, hd, rfl, rfl, hr⟩ := I
  have I' : i_Rel (k + 3) (nI d, s) (nI d, t) := ⟨d, s, t, hd, rfl, rfl, hr⟩
  unfold wpX_has wpY_has
  dsimp only
  by_cases h : v1 < 0 ∨ nI d ≤ v1
  · exact zx_f0 h (br_t rfl (zy_m1 h (br_f (by decide) ⟨rfl, I'⟩)))
  · rcases pk_ix v1 (n := d) (by omega) with g | g | ⟨j, hj, rfl⟩
    · exact absurd (Or.inl g) h
    · exact absurd (Or.inr g) h
    · have hin : vp_in (nI (d - 1 - j)) 12 := vp_in_nI (by omega) (by decide)
      rw [zz_ix hj, nI_clamp (n := d - 1 - j) (by omega)]
      refine zx_f1 hj hd (br_f (by decide) ?_)
      rcases pk_ix v2 (n := 64) (by decide) with g | g | ⟨q, hq, rfl⟩
      · exact br_t g (zy_m0 hj hd (br_t rfl (br_t g ⟨rfl, I'⟩)))
      · obtain ⟨a1, a2⟩ := zz_hi64 g
        exact br_f a1 (br_f a2 (zy_m0 hj hd (br_t rfl (br_f a1 (br_f a2 ⟨rfl, I'⟩)))))
      · have p0 : ¬ nI q < 0 := nI_pos (by omega)
        have p1 : nI q ≤ 63 := nI_le (b := 63) (by omega) (by decide)
        exact br_f p0 (br_t p1 (And.intro hin (zy_m0 hj hd (br_t rfl (br_f p0 (br_t p1 (zy_found hj hd hr (zy_bit hq ⟨(zb_xb _ hq).symm, I'⟩))))))))
theorem i_vc_degree {k : Nat} {u : SX} {v : SY} (I : i_Rel k u v) (hk : k + 3 ≤ 1536) (v1 : Int32) : wpX_degree (fun r => wpY_degree (fun r' => r' = r ∧ i_Rel (k + 3) u v) v v1) u v1 := by
  obtain ⟨d, s, t, hd, rfl, rfl, hr⟩ := I
  have I' : i_Rel (k + 3) (nI d, s) (nI d, t) := ⟨d, s, t, hd, rfl, rfl, hr⟩
  unfold wpX_degree wpY_degree
  dsimp only
  by_cases h : v1 < 0 ∨ nI d ≤ v1
  · exact zx_f0 h (br_t rfl (zy_m1 h (br_f (by decide) ⟨rfl, I'⟩)))
  · rcases pk_ix v1 (n := d) (by omega) with g | g | ⟨j, hj, rfl⟩
    · exact absurd (Or.inl g) h
    · exact absurd (Or.inr g) h
    · have hin : vp_in (nI (d - 1 - j)) 12 := vp_in_nI (by omega) (by decide)
      rw [zz_ix hj, nI_clamp (n := d - 1 - j) (by omega)]
      refine zx_f1 hj hd (br_f (by decide) (And.intro hin (nm_e (Exists.intro 65 (zx_dg _ _ _ ?_ 64 0 (by omega) 65 (by omega))))))
      refine zy_m0 hj hd (br_t rfl (zy_found hj hd hr (Exists.intro 65 (zy_dg _ _ _ ?_ 64 0 (by omega) 65 (by omega)))))
      exact ⟨rfl, I'⟩
theorem i_vc_models {k : Nat} {u : SX} {v : SY} (I : i_Rel k u v) (hk : k + 3 ≤ 1536) (v1 : Int32) : wpX_models (fun r => wpY_models (fun r' => r' = r ∧ i_Rel (k + 3) u v) v v1) u v1 := by
  obtain ⟨d, s, t, hd, rfl, rfl, hr⟩ := I
  have I' : i_Rel (k + 3) (nI d, s) (nI d, t) := ⟨d, s, t, hd, rfl, rfl, hr⟩
  unfold wpX_models wpY_models
  dsimp only
  by_cases h : v1 < 0 ∨ nI d ≤ v1
  · exact zx_f0 h (br_t rfl (zy_m1 h (br_f (by decide) ⟨rfl, I'⟩)))
  · rcases pk_ix v1 (n := d) (by omega) with g | g | ⟨j, hj, rfl⟩
    · exact absurd (Or.inl g) h
    · exact absurd (Or.inr g) h
    · have hin : vp_in (nI (d - 1 - j)) 12 := vp_in_nI (by omega) (by decide)
      rw [zz_ix hj, nI_clamp (n := d - 1 - j) (by omega), hr (d - 1 - j) (by omega)]
      exact zx_f1 hj hd (br_f (by decide) (And.intro hin (zx_vo (zx_ones (zy_m0 hj hd (br_t rfl (And.intro hin (zy_ones ⟨rfl, I'⟩))))))))
theorem i_vc_differ {k : Nat} {u : SX} {v : SY} (I : i_Rel k u v) (hk : k + 3 ≤ 1536) (v1 : Int32) (v2 : Int32) : wpX_differ (fun r => wpY_differ (fun r' => r' = r ∧ i_Rel (k + 3) u v) v v1 v2) u v1 v2 := by
  obtain ⟨d, s, t, hd, rfl, rfl, hr⟩ := I
  have I' : i_Rel (k + 3) (nI d, s) (nI d, t) := ⟨d, s, t, hd, rfl, rfl, hr⟩
  unfold wpX_differ wpY_differ
  dsimp only
  by_cases h : v1 < 0 ∨ nI d ≤ v1
  · exact zx_f0 h (br_t rfl (zy_m1 h (br_f (by decide) ⟨rfl, I'⟩)))
  rcases pk_ix v1 (n := d) (by omega) with g | g | ⟨j, hj, rfl⟩
  · exact absurd (Or.inl g) h
  · exact absurd (Or.inr g) h
  refine zx_f1 hj hd (br_f (by decide) ?_)
  by_cases h2 : v2 < 0 ∨ nI d ≤ v2
  · exact zx_f0 h2 (br_t rfl (zy_m0 hj hd (br_t rfl (zy_m1 h2 (br_f (by decide) ⟨rfl, I'⟩)))))
  rcases pk_ix v2 (n := d) (by omega) with g | g | ⟨l, hl, rfl⟩
  · exact absurd (Or.inl g) h2
  · exact absurd (Or.inr g) h2
  have hin : vp_in (nI (d - 1 - j)) 12 := vp_in_nI (by omega) (by decide)
  have hin2 : vp_in (nI (d - 1 - l)) 12 := vp_in_nI (by omega) (by decide)
  have tj := hr (d - 1 - j) (by omega)
  have tl := hr (d - 1 - l) (by omega)
  rw [zz_ix hj, zz_ix hl, nI_clamp (n := d - 1 - j) (by omega), nI_clamp (n := d - 1 - l) (by omega)]
  have hV : ∀ a, zb_t (zm_V 6 (s (d - 1 - j) ^^^ s (d - 1 - l))) a = (zb_t (t (d - 1 - j)) a ^^ zb_t (t (d - 1 - l)) a) := by
    intro a
    rw [zm_Vx, zb_xor, tj, tl]
  refine zx_f1 hl hd (br_f (by decide) (And.intro hin (And.intro hin2 ?_)))
  intro x ex
  rw [← ex] at hV
  by_cases z : x = 0
  · refine br_t z (zy_m0 hj hd (br_t rfl (zy_m0 hl hd (br_t rfl (Exists.intro 65 (zy_20 (r := 64) hj hl hd (by omega) ?_ (fun c => absurd c (by omega)) ⟨rfl, I'⟩ 64 0 (by omega) 65 (by omega)))))))
    intro b _
    have e := hV b
    rw [z, zm_V0, zb_0] at e
    revert e
    cases zb_t (t (d - 1 - j)) b <;> cases zb_t (t (d - 1 - l)) b <;> decide
  · have ex : ∃ a, a < 64 ∧ zb_t (zm_V 6 x) a = true := by
      apply Classical.byContradiction
      intro c
      apply z
      apply zm_Vi
      intro a ha
      cases e : zb_t (zm_V 6 x) a
      · rfl
      · exact absurd ⟨a, ha, e⟩ c
    obtain ⟨a, ⟨ha, ea⟩, hmin⟩ := pk_least (fun a => a < 64 ∧ zb_t (zm_V 6 x) a = true) ex
    have h0 : ∀ b, b < a → zb_t (zm_V 6 x) b = false := by
      intro b hb
      cases e : zb_t (zm_V 6 x) b
      · rfl
      · exact absurd ⟨by omega, e⟩ (hmin b hb)
    refine br_f z (zx_vo ?_)
    rw [zp_lb ha ea h0]
    refine zx_ones ?_
    rw [zp_lc (by omega)]
    refine zy_m0 hj hd (br_t rfl (zy_m0 hl hd (br_t rfl (Exists.intro 65 (zy_20 (r := a) hj hl hd (by omega) ?_ ?_ ⟨rfl, I'⟩ a 0 (by omega) 65 (by omega))))))
    · intro b hb
      have e := hV b
      rw [h0 b hb] at e
      revert e
      cases zb_t (t (d - 1 - j)) b <;> cases zb_t (t (d - 1 - l)) b <;> decide
    · intro _ c
      have e := hV a
      rw [ea, c] at e
      revert e
      cases zb_t (t (d - 1 - l)) a <;> decide
end
